section
-- ===== PART A: goes FIRST, ahead of the names: the tables' words, and 'selects' of the private methods out of them =====
/-- a private method of a class that the tables say can be made, by its rows of tables_1 -/
def lw_okq (q : MethodName × Nat) : Prop := (q.1.cls ≠ "java/lang/invoke/MethodHandle" ∧ q.1.cls ≠ "java/lang/invoke/VarHandle") ∧ Cond.instantiable q.1.cls q.2 ∈ tables_1 ∧ Cond.privateMethod q.1 ∈ tables_1 ∧ Cond.instanceMethod q.1 ∈ tables_1
def lw_privs : List (MethodName × Nat) := []
def lw_tbl : List Cond := k2_sels lw_privs ++ tables_1
theorem lw_privs_ok : ∀ q ∈ lw_privs, lw_okq q := fun _ h => absurd h List.not_mem_nil
-- ===== ONE list of words for every method: the tables' words that hold all through a run =====
def lw_all : List Cond := lw_tbl.filter goodWord
/-- a word of the tables by its place: claim/WORDS.tsv -/
theorem lw_w {w : Cond} (i : Nat) (h : lw_tbl[i]? = some w) (g : goodWord w = true) : w ∈ lw_all := List.mem_filter.mpr ⟨List.mem_of_getElem? h, g⟩
theorem lw_all_tbl {w : Cond} (h : w ∈ lw_all) : w ∈ lw_tbl := (List.mem_filter.mp h).1
theorem lw_self : GoodIn lw_all lw_all := fun w h => ⟨h, good_of_word (List.mem_filter.mp h).2⟩
/-- a class's field words, by their places -/
theorem lw_in (ws : List Cond) (ps : List Nat) (hp : ws = ps.filterMap (fun i => lw_tbl[i]?)) (hg : ws.all goodWord = true) : ∀ w ∈ ws, w ∈ lw_all := by
  intro w h
  have h1 := List.all_eq_true.mp hg w h
  rw [hp] at h
  obtain ⟨i, -, hi⟩ := List.mem_filterMap.mp h
  exact lw_w i hi h1
/-- the words of a contract for the method y with code b, L locals, answer r -/
abbrev ws_ (y : MethodName) (b : ByteArray) (L : Nat) (r : Option FieldType) : List Cond := Cond.code y b L r :: lw_all
theorem lw_meth {y : MethodName} {b : ByteArray} {L : Nat} {r : Option FieldType} (h : Cond.code y b L r ∈ lw_all) : GoodIn lw_all (ws_ y b L r) := by
  intro w hw
  rcases List.mem_cons.mp hw with e | e
  · rw [e]
    exact lw_self _ h
  · exact lw_self _ e
theorem lw_app {a c : List Cond} (ha : ∀ w ∈ a, w ∈ lw_all) (hc : GoodIn lw_all c) : GoodIn lw_all (a ++ c) := by
  intro w hw
  rcases List.mem_append.mp hw with e | e
  · exact lw_self w (ha w e)
  · exact hc w e
/-- what a call through an object asks: cwV n hts (lw_V ..) -/
theorem lw_V {own : String} {idx : Nat} {C : String} {y : MethodName} {b : ByteArray} {L : Nat} {r : Option FieldType} (h1 : Cond.methodLink own idx y ∈ lw_all) (h2 : Cond.instanceMethod y ∈ lw_all) (h3 : Cond.selects C y y ∈ lw_all) (h4 : Cond.initialized C ∈ lw_all) (h5 : Cond.code y b L r ∈ lw_all) : GoodIn lw_all (wsV own idx C y (ws_ y b L r)) := by
  refine lw_app ?_ (lw_meth h5)
  intro w hw
  simp only [List.mem_cons, List.not_mem_nil, or_false] at hw
  rcases hw with e | e | e | e
  · rw [e]; exact h1
  · rw [e]; exact h2
  · rw [e]; exact h3
  · rw [e]; exact h4
/-- what a static call asks: va_cwS n hts (lw_S ..) -/
theorem lw_S {own : String} {idx : Nat} {y : MethodName} {b : ByteArray} {L : Nat} {r : Option FieldType} (h1 : Cond.methodLink own idx y ∈ lw_all) (h2 : Cond.static y ∈ lw_all) (h3 : Cond.initialized y.cls ∈ lw_all) (h4 : Cond.code y b L r ∈ lw_all) : GoodIn lw_all (va_wsS own idx y (ws_ y b L r)) := by
  refine lw_app ?_ (lw_meth h4)
  intro w hw
  simp only [List.mem_cons, List.not_mem_nil, or_false] at hw
  rcases hw with e | e | e
  · rw [e]; exact h1
  · rw [e]; exact h2
  · rw [e]; exact h3
/-- the words of a contract for a method WITH HANDLERS (hh: its table) -/
abbrev wsW_ (y : MethodName) (b : ByteArray) (L : Nat) (r : Option FieldType) (hh : List (Nat × Nat × Nat × Nat)) : List Cond := Cond.codeWith y b L r hh :: lw_all
theorem lw_methW {y : MethodName} {b : ByteArray} {L : Nat} {r : Option FieldType} {hh : List (Nat × Nat × Nat × Nat)} (h : Cond.codeWith y b L r hh ∈ lw_all) : GoodIn lw_all (wsW_ y b L r hh) := by
  intro w hw
  rcases List.mem_cons.mp hw with e | e
  · rw [e]
    exact lw_self _ h
  · exact lw_self _ e
/-- any list of words by their places (lw_in), good -/
theorem lw_good {ws : List Cond} (h : ∀ w ∈ ws, w ∈ lw_all) : GoodIn lw_all ws := fun w hw => lw_self w (h w hw)
/-- what a call of a method with handlers asks: vx_cwVW n hts (lw_VW ..), vx_cwSW n hts (lw_SW ..) -/
theorem lw_VW {own : String} {idx : Nat} {C : String} {y : MethodName} {b : ByteArray} {L : Nat} {r : Option FieldType} {hh : List (Nat × Nat × Nat × Nat)} (h1 : Cond.methodLink own idx y ∈ lw_all) (h2 : Cond.instanceMethod y ∈ lw_all) (h3 : Cond.selects C y y ∈ lw_all) (h4 : Cond.initialized C ∈ lw_all) (h5 : Cond.codeWith y b L r hh ∈ lw_all) : GoodIn lw_all (wsV own idx C y (wsW_ y b L r hh)) := by
  refine lw_app ?_ (lw_methW h5)
  intro w hw
  simp only [List.mem_cons, List.not_mem_nil, or_false] at hw
  rcases hw with e | e | e | e
  · rw [e]; exact h1
  · rw [e]; exact h2
  · rw [e]; exact h3
  · rw [e]; exact h4
theorem lw_SW {own : String} {idx : Nat} {y : MethodName} {b : ByteArray} {L : Nat} {r : Option FieldType} {hh : List (Nat × Nat × Nat × Nat)} (h1 : Cond.methodLink own idx y ∈ lw_all) (h2 : Cond.static y ∈ lw_all) (h3 : Cond.initialized y.cls ∈ lw_all) (h4 : Cond.codeWith y b L r hh ∈ lw_all) : GoodIn lw_all (va_wsS own idx y (wsW_ y b L r hh)) := by
  refine lw_app ?_ (lw_methW h4)
  intro w hw
  simp only [List.mem_cons, List.not_mem_nil, or_false] at hw
  rcases hw with e | e | e
  · rw [e]; exact h1
  · rw [e]; exact h2
  · rw [e]; exact h3
/-- a word by its place in its run of the tables -/
theorem lw_at {r : List Cond} (hr : ∀ w ∈ r, w ∈ lw_tbl) {w : Cond} (i : Nat) (h : r[i]? = some w) : w ∈ lw_tbl := hr w (List.mem_of_getElem? h)
theorem lw_g {w : Cond} (h : w ∈ lw_tbl) (g : goodWord w = true) : w ∈ lw_all := List.mem_filter.mpr ⟨h, g⟩
theorem lw_ms : ∀ w ∈ k2_sels lw_privs, w ∈ lw_tbl := fun w h => show w ∈ k2_sels lw_privs ++ tables_1 from List.mem_append_left _ h
theorem lw_m0 : ∀ w ∈ tables_1, w ∈ lw_tbl := fun w h => show w ∈ k2_sels lw_privs ++ tables_1 from List.mem_append_right (k2_sels lw_privs) h
/-! LeastScript$Numbers -/
set_option maxRecDepth 100000
def RX1 : String := "LeastScript$Numbers"
def TX1 : u_T := fun k => match k with
  | 0 => ("LeastScript$Numbers", "lines", "[I", true)
  | 1 => ("LeastScript$Numbers", "slots", "[I", true)
  | _ => ("LeastScript$Numbers", "many", "I", false)
def tyX1 : Nat → FieldType := fun k => match k with
  | 0 => .array .int
  | 1 => .array .int
  | _ => .int
abbrev wsX10 : List Cond := u_ws RX1 TX1 3
theorem nmX1 : ∀ a, a < 3 → ∀ b, b < 3 → a ≠ b → (TX1 a).2.1 ≠ (TX1 b).2.1 := by decide +kernel
theorem tyX1_ok : ∀ k, k < 3 → parseFieldDescriptor (TX1 k).2.2.1 = some (tyX1 k) := by decide +kernel
abbrev cX1_init : ByteArray := prog_2_method_1_code
def yX1_init : MethodName := ⟨RX1, "<init>", "()V"⟩
theorem dX1_init_0 : decode cX1_init 0 = .ok (.aload_n 0, 1) := by decide +kernel
theorem dX1_init_1 : decode cX1_init 1 = .ok (.invokespecial 3, 3) := by decide +kernel
theorem dX1_init_4 : decode cX1_init 4 = .ok (.aload_n 0, 1) := by decide +kernel
theorem dX1_init_5 : decode cX1_init 5 = .ok (.sipush 256, 3) := by decide +kernel
theorem dX1_init_8 : decode cX1_init 8 = .ok (.newarray .int, 2) := by decide +kernel
theorem dX1_init_10 : decode cX1_init 10 = .ok (.putfield 9, 3) := by decide +kernel
theorem dX1_init_13 : decode cX1_init 13 = .ok (.aload_n 0, 1) := by decide +kernel
theorem dX1_init_14 : decode cX1_init 14 = .ok (.sipush 1024, 3) := by decide +kernel
theorem dX1_init_17 : decode cX1_init 17 = .ok (.newarray .int, 2) := by decide +kernel
theorem dX1_init_19 : decode cX1_init 19 = .ok (.putfield 15, 3) := by decide +kernel
theorem dX1_init_22 : decode cX1_init 22 = .ok (.aload_n 0, 1) := by decide +kernel
theorem dX1_init_23 : decode cX1_init 23 = .ok (.invokevirtual 18, 3) := by decide +kernel
theorem dX1_init_26 : decode cX1_init 26 = .ok (.return_, 1) := by decide +kernel
abbrev cX1_clear : ByteArray := prog_2_method_2_code
def yX1_clear : MethodName := ⟨RX1, "clear", "()V"⟩
theorem dX1_clear_0 : decode cX1_clear 0 = .ok (.aload_n 0, 1) := by decide +kernel
theorem dX1_clear_1 : decode cX1_clear 1 = .ok (.iconst 0, 1) := by decide +kernel
theorem dX1_clear_2 : decode cX1_clear 2 = .ok (.putfield 21, 3) := by decide +kernel
theorem dX1_clear_5 : decode cX1_clear 5 = .ok (.iconst 0, 1) := by decide +kernel
theorem dX1_clear_6 : decode cX1_clear 6 = .ok (.istore_n 1, 1) := by decide +kernel
theorem dX1_clear_7 : decode cX1_clear 7 = .ok (.iload_n 1, 1) := by decide +kernel
theorem dX1_clear_8 : decode cX1_clear 8 = .ok (.sipush 1024, 3) := by decide +kernel
theorem dX1_clear_11 : decode cX1_clear 11 = .ok (.if_icmp .ge 16, 3) := by decide +kernel
theorem dX1_clear_14 : decode cX1_clear 14 = .ok (.aload_n 0, 1) := by decide +kernel
theorem dX1_clear_15 : decode cX1_clear 15 = .ok (.getfield 15, 3) := by decide +kernel
theorem dX1_clear_18 : decode cX1_clear 18 = .ok (.iload_n 1, 1) := by decide +kernel
theorem dX1_clear_19 : decode cX1_clear 19 = .ok (.iconst (-1), 1) := by decide +kernel
theorem dX1_clear_20 : decode cX1_clear 20 = .ok (.iastore, 1) := by decide +kernel
theorem dX1_clear_21 : decode cX1_clear 21 = .ok (.iinc 1 1, 3) := by decide +kernel
theorem dX1_clear_24 : decode cX1_clear 24 = .ok (.goto (-17), 3) := by decide +kernel
theorem dX1_clear_27 : decode cX1_clear 27 = .ok (.return_, 1) := by decide +kernel
abbrev cX1_of : ByteArray := prog_2_method_3_code
def yX1_of : MethodName := ⟨RX1, "of", "(I)I"⟩
theorem dX1_of_0 : decode cX1_of 0 = .ok (.iload_n 1, 1) := by decide +kernel
theorem dX1_of_1 : decode cX1_of 1 = .ok (.iload_n 1, 1) := by decide +kernel
theorem dX1_of_2 : decode cX1_of 2 = .ok (.bipush 15, 2) := by decide +kernel
theorem dX1_of_4 : decode cX1_of 4 = .ok (.iushr, 1) := by decide +kernel
theorem dX1_of_5 : decode cX1_of 5 = .ok (.ixor, 1) := by decide +kernel
theorem dX1_of_6 : decode cX1_of 6 = .ok (.ldc 25, 2) := by decide +kernel
theorem dX1_of_8 : decode cX1_of 8 = .ok (.imul, 1) := by decide +kernel
theorem dX1_of_9 : decode cX1_of 9 = .ok (.bipush 22, 2) := by decide +kernel
theorem dX1_of_11 : decode cX1_of 11 = .ok (.iushr, 1) := by decide +kernel
theorem dX1_of_12 : decode cX1_of 12 = .ok (.istore_n 2, 1) := by decide +kernel
theorem dX1_of_13 : decode cX1_of 13 = .ok (.aload_n 0, 1) := by decide +kernel
theorem dX1_of_14 : decode cX1_of 14 = .ok (.getfield 15, 3) := by decide +kernel
theorem dX1_of_17 : decode cX1_of 17 = .ok (.iload_n 2, 1) := by decide +kernel
theorem dX1_of_18 : decode cX1_of 18 = .ok (.iaload, 1) := by decide +kernel
theorem dX1_of_19 : decode cX1_of 19 = .ok (.ifCond .lt 29, 3) := by decide +kernel
theorem dX1_of_22 : decode cX1_of 22 = .ok (.aload_n 0, 1) := by decide +kernel
theorem dX1_of_23 : decode cX1_of 23 = .ok (.getfield 9, 3) := by decide +kernel
theorem dX1_of_26 : decode cX1_of 26 = .ok (.aload_n 0, 1) := by decide +kernel
theorem dX1_of_27 : decode cX1_of 27 = .ok (.getfield 15, 3) := by decide +kernel
theorem dX1_of_30 : decode cX1_of 30 = .ok (.iload_n 2, 1) := by decide +kernel
theorem dX1_of_31 : decode cX1_of 31 = .ok (.iaload, 1) := by decide +kernel
theorem dX1_of_32 : decode cX1_of 32 = .ok (.iaload, 1) := by decide +kernel
theorem dX1_of_33 : decode cX1_of 33 = .ok (.iload_n 1, 1) := by decide +kernel
theorem dX1_of_34 : decode cX1_of 34 = .ok (.if_icmp .eq 14, 3) := by decide +kernel
theorem dX1_of_37 : decode cX1_of 37 = .ok (.iload_n 2, 1) := by decide +kernel
theorem dX1_of_38 : decode cX1_of 38 = .ok (.iconst 1, 1) := by decide +kernel
theorem dX1_of_39 : decode cX1_of 39 = .ok (.iadd, 1) := by decide +kernel
theorem dX1_of_40 : decode cX1_of 40 = .ok (.sipush 1023, 3) := by decide +kernel
theorem dX1_of_43 : decode cX1_of 43 = .ok (.iand, 1) := by decide +kernel
theorem dX1_of_44 : decode cX1_of 44 = .ok (.istore_n 2, 1) := by decide +kernel
theorem dX1_of_45 : decode cX1_of 45 = .ok (.goto (-32), 3) := by decide +kernel
theorem dX1_of_48 : decode cX1_of 48 = .ok (.aload_n 0, 1) := by decide +kernel
theorem dX1_of_49 : decode cX1_of 49 = .ok (.getfield 15, 3) := by decide +kernel
theorem dX1_of_52 : decode cX1_of 52 = .ok (.iload_n 2, 1) := by decide +kernel
theorem dX1_of_53 : decode cX1_of 53 = .ok (.iaload, 1) := by decide +kernel
theorem dX1_of_54 : decode cX1_of 54 = .ok (.ifCond .ge 30, 3) := by decide +kernel
theorem dX1_of_57 : decode cX1_of 57 = .ok (.aload_n 0, 1) := by decide +kernel
theorem dX1_of_58 : decode cX1_of 58 = .ok (.getfield 15, 3) := by decide +kernel
theorem dX1_of_61 : decode cX1_of 61 = .ok (.iload_n 2, 1) := by decide +kernel
theorem dX1_of_62 : decode cX1_of 62 = .ok (.aload_n 0, 1) := by decide +kernel
theorem dX1_of_63 : decode cX1_of 63 = .ok (.getfield 21, 3) := by decide +kernel
theorem dX1_of_66 : decode cX1_of 66 = .ok (.iastore, 1) := by decide +kernel
theorem dX1_of_67 : decode cX1_of 67 = .ok (.aload_n 0, 1) := by decide +kernel
theorem dX1_of_68 : decode cX1_of 68 = .ok (.getfield 9, 3) := by decide +kernel
theorem dX1_of_71 : decode cX1_of 71 = .ok (.aload_n 0, 1) := by decide +kernel
theorem dX1_of_72 : decode cX1_of 72 = .ok (.dup, 1) := by decide +kernel
theorem dX1_of_73 : decode cX1_of 73 = .ok (.getfield 21, 3) := by decide +kernel
theorem dX1_of_76 : decode cX1_of 76 = .ok (.dup_x1, 1) := by decide +kernel
theorem dX1_of_77 : decode cX1_of 77 = .ok (.iconst 1, 1) := by decide +kernel
theorem dX1_of_78 : decode cX1_of 78 = .ok (.iadd, 1) := by decide +kernel
theorem dX1_of_79 : decode cX1_of 79 = .ok (.putfield 21, 3) := by decide +kernel
theorem dX1_of_82 : decode cX1_of 82 = .ok (.iload_n 1, 1) := by decide +kernel
theorem dX1_of_83 : decode cX1_of 83 = .ok (.iastore, 1) := by decide +kernel
theorem dX1_of_84 : decode cX1_of 84 = .ok (.aload_n 0, 1) := by decide +kernel
theorem dX1_of_85 : decode cX1_of 85 = .ok (.getfield 15, 3) := by decide +kernel
theorem dX1_of_88 : decode cX1_of 88 = .ok (.iload_n 2, 1) := by decide +kernel
theorem dX1_of_89 : decode cX1_of 89 = .ok (.iaload, 1) := by decide +kernel
theorem dX1_of_90 : decode cX1_of 90 = .ok (.ireturn, 1) := by decide +kernel
theorem q2 : (Jvm.Cond.initialized "LeastScript$Numbers") ∈ lw_all := lw_g (lw_at lw_m0 2 rfl) rfl
theorem q14 : (Jvm.Cond.instantiable "LeastScript$Numbers" (3 : Nat)) ∈ lw_all := lw_g (lw_at lw_m0 14 rfl) rfl
theorem q16 : (Jvm.Cond.instanceMethod ({ cls := "LeastScript$Numbers", name := "<init>", desc := "()V" } : Jvm.MethodName)) ∈ lw_all := lw_g (lw_at lw_m0 16 rfl) rfl
theorem q17 : (Jvm.Cond.code ({ cls := "LeastScript$Numbers", name := "<init>", desc := "()V" } : Jvm.MethodName) prog_2_method_1_code (1 : Nat) (Option.none : Option Jvm.ClassFile.FieldType)) ∈ lw_all := lw_g (lw_at lw_m0 17 rfl) rfl
theorem q18 : (Jvm.Cond.methodLink "LeastScript$Numbers" (3 : Nat) ({ cls := "java/lang/Object", name := "<init>", desc := "()V" } : Jvm.MethodName)) ∈ lw_all := lw_g (lw_at lw_m0 18 rfl) rfl
theorem q19 : (Jvm.Cond.methodLink "LeastScript$Numbers" (18 : Nat) ({ cls := "LeastScript$Numbers", name := "clear", desc := "()V" } : Jvm.MethodName)) ∈ lw_all := lw_g (lw_at lw_m0 19 rfl) rfl
theorem q20 : (Jvm.Cond.instanceMethod ({ cls := "LeastScript$Numbers", name := "clear", desc := "()V" } : Jvm.MethodName)) ∈ lw_all := lw_g (lw_at lw_m0 20 rfl) rfl
theorem q21 : (Jvm.Cond.selects "LeastScript$Numbers" ({ cls := "LeastScript$Numbers", name := "clear", desc := "()V" } : Jvm.MethodName) ({ cls := "LeastScript$Numbers", name := "clear", desc := "()V" } : Jvm.MethodName)) ∈ lw_all := lw_g (lw_at lw_m0 21 rfl) rfl
theorem q22 : (Jvm.Cond.code ({ cls := "LeastScript$Numbers", name := "clear", desc := "()V" } : Jvm.MethodName) prog_2_method_2_code (2 : Nat) (Option.none : Option Jvm.ClassFile.FieldType)) ∈ lw_all := lw_g (lw_at lw_m0 22 rfl) rfl
theorem q23 : (Jvm.Cond.fieldLink "LeastScript$Numbers" (9 : Nat) "LeastScript$Numbers" "lines" "[I") ∈ lw_all := lw_g (lw_at lw_m0 23 rfl) rfl
theorem q24 : (Jvm.Cond.fieldLink "LeastScript$Numbers" (15 : Nat) "LeastScript$Numbers" "slots" "[I") ∈ lw_all := lw_g (lw_at lw_m0 24 rfl) rfl
theorem q25 : (Jvm.Cond.fieldLink "LeastScript$Numbers" (21 : Nat) "LeastScript$Numbers" "many" "I") ∈ lw_all := lw_g (lw_at lw_m0 25 rfl) rfl
theorem q26 : (Jvm.Cond.laysFinal "LeastScript$Numbers" "LeastScript$Numbers" "lines" "[I") ∈ lw_all := lw_g (lw_at lw_m0 26 rfl) rfl
theorem q27 : (Jvm.Cond.soleField "LeastScript$Numbers" "lines") ∈ lw_all := lw_g (lw_at lw_m0 27 rfl) rfl
theorem q28 : (Jvm.Cond.laysFinal "LeastScript$Numbers" "LeastScript$Numbers" "slots" "[I") ∈ lw_all := lw_g (lw_at lw_m0 28 rfl) rfl
theorem q29 : (Jvm.Cond.soleField "LeastScript$Numbers" "slots") ∈ lw_all := lw_g (lw_at lw_m0 29 rfl) rfl
theorem q30 : (Jvm.Cond.lays "LeastScript$Numbers" "LeastScript$Numbers" "many" "I") ∈ lw_all := lw_g (lw_at lw_m0 30 rfl) rfl
theorem q31 : (Jvm.Cond.soleField "LeastScript$Numbers" "many") ∈ lw_all := lw_g (lw_at lw_m0 31 rfl) rfl
theorem q32 : (Jvm.Cond.superclass "LeastScript$Numbers" "java/lang/Object") ∈ lw_all := lw_g (lw_at lw_m0 32 rfl) rfl
theorem q69 : (Jvm.Cond.instanceMethod ({ cls := "LeastScript$Numbers", name := "of", desc := "(I)I" } : Jvm.MethodName)) ∈ lw_all := lw_g (lw_at lw_m0 69 rfl) rfl
theorem q70 : (Jvm.Cond.selects "LeastScript$Numbers" ({ cls := "LeastScript$Numbers", name := "of", desc := "(I)I" } : Jvm.MethodName) ({ cls := "LeastScript$Numbers", name := "of", desc := "(I)I" } : Jvm.MethodName)) ∈ lw_all := lw_g (lw_at lw_m0 70 rfl) rfl
theorem q71 : (Jvm.Cond.code ({ cls := "LeastScript$Numbers", name := "of", desc := "(I)I" } : Jvm.MethodName) prog_2_method_3_code (3 : Nat) (Option.some Jvm.ClassFile.FieldType.int)) ∈ lw_all := lw_g (lw_at lw_m0 71 rfl) rfl
theorem q72 : (Jvm.Cond.constant "LeastScript$Numbers" (25 : Nat) (-1640531535 : Int32)) ∈ lw_all := lw_g (lw_at lw_m0 72 rfl) rfl
theorem in_X1 : ∀ w ∈ wsX10, w ∈ lw_all := lw_in wsX10 [26, 28, 30] (by decide +kernel) (by decide +kernel)
end
section
/-! LeastScript -/
set_option maxRecDepth 100000
def RX0 : String := "LeastScript"
def TX0 : u_T := fun k => match k with
  | 0 => ("LeastScript", "numbers", "LLeastScript$Numbers;", true)
  | 1 => ("LeastScript", "left", "[I", true)
  | 2 => ("LeastScript", "leftLine", "[I", true)
  | 3 => ("LeastScript", "last", "[I", true)
  | 4 => ("LeastScript", "before", "[I", true)
  | 5 => ("LeastScript", "lefts", "I", false)
  | 6 => ("LeastScript", "rights", "I", false)
  | _ => ("LeastScript", "ends", "[I", true)
def tyX0 : Nat → FieldType := fun k => match k with
  | 0 => .object "LeastScript$Numbers"
  | 1 => .array .int
  | 2 => .array .int
  | 3 => .array .int
  | 4 => .array .int
  | 5 => .int
  | 6 => .int
  | _ => .array .int
abbrev wsX00 : List Cond := u_ws RX0 TX0 8
theorem nmX0 : ∀ a, a < 8 → ∀ b, b < 8 → a ≠ b → (TX0 a).2.1 ≠ (TX0 b).2.1 := by decide +kernel
theorem tyX0_ok : ∀ k, k < 8 → parseFieldDescriptor (TX0 k).2.2.1 = some (tyX0 k) := by decide +kernel
abbrev cX0_init : ByteArray := prog_1_method_1_code
def yX0_init : MethodName := ⟨RX0, "<init>", "()V"⟩
theorem dX0_init_0 : decode cX0_init 0 = .ok (.aload_n 0, 1) := by decide +kernel
theorem dX0_init_1 : decode cX0_init 1 = .ok (.invokespecial 1, 3) := by decide +kernel
theorem dX0_init_4 : decode cX0_init 4 = .ok (.aload_n 0, 1) := by decide +kernel
theorem dX0_init_5 : decode cX0_init 5 = .ok (.new 7, 3) := by decide +kernel
theorem dX0_init_8 : decode cX0_init 8 = .ok (.dup, 1) := by decide +kernel
theorem dX0_init_9 : decode cX0_init 9 = .ok (.invokespecial 9, 3) := by decide +kernel
theorem dX0_init_12 : decode cX0_init 12 = .ok (.putfield 10, 3) := by decide +kernel
theorem dX0_init_15 : decode cX0_init 15 = .ok (.aload_n 0, 1) := by decide +kernel
theorem dX0_init_16 : decode cX0_init 16 = .ok (.sipush 128, 3) := by decide +kernel
theorem dX0_init_19 : decode cX0_init 19 = .ok (.newarray .int, 2) := by decide +kernel
theorem dX0_init_21 : decode cX0_init 21 = .ok (.putfield 16, 3) := by decide +kernel
theorem dX0_init_24 : decode cX0_init 24 = .ok (.aload_n 0, 1) := by decide +kernel
theorem dX0_init_25 : decode cX0_init 25 = .ok (.sipush 128, 3) := by decide +kernel
theorem dX0_init_28 : decode cX0_init 28 = .ok (.newarray .int, 2) := by decide +kernel
theorem dX0_init_30 : decode cX0_init 30 = .ok (.putfield 20, 3) := by decide +kernel
theorem dX0_init_33 : decode cX0_init 33 = .ok (.aload_n 0, 1) := by decide +kernel
theorem dX0_init_34 : decode cX0_init 34 = .ok (.sipush 256, 3) := by decide +kernel
theorem dX0_init_37 : decode cX0_init 37 = .ok (.newarray .int, 2) := by decide +kernel
theorem dX0_init_39 : decode cX0_init 39 = .ok (.putfield 23, 3) := by decide +kernel
theorem dX0_init_42 : decode cX0_init 42 = .ok (.aload_n 0, 1) := by decide +kernel
theorem dX0_init_43 : decode cX0_init 43 = .ok (.sipush 128, 3) := by decide +kernel
theorem dX0_init_46 : decode cX0_init 46 = .ok (.newarray .int, 2) := by decide +kernel
theorem dX0_init_48 : decode cX0_init 48 = .ok (.putfield 26, 3) := by decide +kernel
theorem dX0_init_51 : decode cX0_init 51 = .ok (.aload_n 0, 1) := by decide +kernel
theorem dX0_init_52 : decode cX0_init 52 = .ok (.sipush 128, 3) := by decide +kernel
theorem dX0_init_55 : decode cX0_init 55 = .ok (.newarray .int, 2) := by decide +kernel
theorem dX0_init_57 : decode cX0_init 57 = .ok (.putfield 29, 3) := by decide +kernel
theorem dX0_init_60 : decode cX0_init 60 = .ok (.aload_n 0, 1) := by decide +kernel
theorem dX0_init_61 : decode cX0_init 61 = .ok (.invokevirtual 32, 3) := by decide +kernel
theorem dX0_init_64 : decode cX0_init 64 = .ok (.return_, 1) := by decide +kernel
abbrev cX0_clear : ByteArray := prog_1_method_6_code
def yX0_clear : MethodName := ⟨RX0, "clear", "()V"⟩
theorem dX0_clear_0 : decode cX0_clear 0 = .ok (.aload_n 0, 1) := by decide +kernel
theorem dX0_clear_1 : decode cX0_clear 1 = .ok (.getfield 10, 3) := by decide +kernel
theorem dX0_clear_4 : decode cX0_clear 4 = .ok (.invokevirtual 59, 3) := by decide +kernel
theorem dX0_clear_7 : decode cX0_clear 7 = .ok (.aload_n 0, 1) := by decide +kernel
theorem dX0_clear_8 : decode cX0_clear 8 = .ok (.iconst 0, 1) := by decide +kernel
theorem dX0_clear_9 : decode cX0_clear 9 = .ok (.putfield 35, 3) := by decide +kernel
theorem dX0_clear_12 : decode cX0_clear 12 = .ok (.aload_n 0, 1) := by decide +kernel
theorem dX0_clear_13 : decode cX0_clear 13 = .ok (.iconst 0, 1) := by decide +kernel
theorem dX0_clear_14 : decode cX0_clear 14 = .ok (.putfield 43, 3) := by decide +kernel
theorem dX0_clear_17 : decode cX0_clear 17 = .ok (.iconst 0, 1) := by decide +kernel
theorem dX0_clear_18 : decode cX0_clear 18 = .ok (.istore_n 1, 1) := by decide +kernel
theorem dX0_clear_19 : decode cX0_clear 19 = .ok (.iload_n 1, 1) := by decide +kernel
theorem dX0_clear_20 : decode cX0_clear 20 = .ok (.sipush 256, 3) := by decide +kernel
theorem dX0_clear_23 : decode cX0_clear 23 = .ok (.if_icmp .ge 16, 3) := by decide +kernel
theorem dX0_clear_26 : decode cX0_clear 26 = .ok (.aload_n 0, 1) := by decide +kernel
theorem dX0_clear_27 : decode cX0_clear 27 = .ok (.getfield 23, 3) := by decide +kernel
theorem dX0_clear_30 : decode cX0_clear 30 = .ok (.iload_n 1, 1) := by decide +kernel
theorem dX0_clear_31 : decode cX0_clear 31 = .ok (.iconst (-1), 1) := by decide +kernel
theorem dX0_clear_32 : decode cX0_clear 32 = .ok (.iastore, 1) := by decide +kernel
theorem dX0_clear_33 : decode cX0_clear 33 = .ok (.iinc 1 1, 3) := by decide +kernel
theorem dX0_clear_36 : decode cX0_clear 36 = .ok (.goto (-17), 3) := by decide +kernel
theorem dX0_clear_39 : decode cX0_clear 39 = .ok (.return_, 1) := by decide +kernel
abbrev cX0_left : ByteArray := prog_1_method_2_code
def yX0_left : MethodName := ⟨RX0, "left", "(I)Z"⟩
theorem dX0_left_0 : decode cX0_left 0 = .ok (.aload_n 0, 1) := by decide +kernel
theorem dX0_left_1 : decode cX0_left 1 = .ok (.getfield 35, 3) := by decide +kernel
theorem dX0_left_4 : decode cX0_left 4 = .ok (.sipush 128, 3) := by decide +kernel
theorem dX0_left_7 : decode cX0_left 7 = .ok (.if_icmp .ne 5, 3) := by decide +kernel
theorem dX0_left_10 : decode cX0_left 10 = .ok (.iconst 0, 1) := by decide +kernel
theorem dX0_left_11 : decode cX0_left 11 = .ok (.ireturn, 1) := by decide +kernel
theorem dX0_left_12 : decode cX0_left 12 = .ok (.aload_n 0, 1) := by decide +kernel
theorem dX0_left_13 : decode cX0_left 13 = .ok (.getfield 20, 3) := by decide +kernel
theorem dX0_left_16 : decode cX0_left 16 = .ok (.aload_n 0, 1) := by decide +kernel
theorem dX0_left_17 : decode cX0_left 17 = .ok (.getfield 35, 3) := by decide +kernel
theorem dX0_left_20 : decode cX0_left 20 = .ok (.iload_n 1, 1) := by decide +kernel
theorem dX0_left_21 : decode cX0_left 21 = .ok (.iastore, 1) := by decide +kernel
theorem dX0_left_22 : decode cX0_left 22 = .ok (.aload_n 0, 1) := by decide +kernel
theorem dX0_left_23 : decode cX0_left 23 = .ok (.getfield 16, 3) := by decide +kernel
theorem dX0_left_26 : decode cX0_left 26 = .ok (.aload_n 0, 1) := by decide +kernel
theorem dX0_left_27 : decode cX0_left 27 = .ok (.dup, 1) := by decide +kernel
theorem dX0_left_28 : decode cX0_left 28 = .ok (.getfield 35, 3) := by decide +kernel
theorem dX0_left_31 : decode cX0_left 31 = .ok (.dup_x1, 1) := by decide +kernel
theorem dX0_left_32 : decode cX0_left 32 = .ok (.iconst 1, 1) := by decide +kernel
theorem dX0_left_33 : decode cX0_left 33 = .ok (.iadd, 1) := by decide +kernel
theorem dX0_left_34 : decode cX0_left 34 = .ok (.putfield 35, 3) := by decide +kernel
theorem dX0_left_37 : decode cX0_left 37 = .ok (.aload_n 0, 1) := by decide +kernel
theorem dX0_left_38 : decode cX0_left 38 = .ok (.getfield 10, 3) := by decide +kernel
theorem dX0_left_41 : decode cX0_left 41 = .ok (.iload_n 1, 1) := by decide +kernel
theorem dX0_left_42 : decode cX0_left 42 = .ok (.invokevirtual 39, 3) := by decide +kernel
theorem dX0_left_45 : decode cX0_left 45 = .ok (.iastore, 1) := by decide +kernel
theorem dX0_left_46 : decode cX0_left 46 = .ok (.iconst 1, 1) := by decide +kernel
theorem dX0_left_47 : decode cX0_left 47 = .ok (.ireturn, 1) := by decide +kernel
abbrev cX0_right : ByteArray := prog_1_method_3_code
def yX0_right : MethodName := ⟨RX0, "right", "(I)Z"⟩
theorem dX0_right_0 : decode cX0_right 0 = .ok (.aload_n 0, 1) := by decide +kernel
theorem dX0_right_1 : decode cX0_right 1 = .ok (.getfield 43, 3) := by decide +kernel
theorem dX0_right_4 : decode cX0_right 4 = .ok (.sipush 128, 3) := by decide +kernel
theorem dX0_right_7 : decode cX0_right 7 = .ok (.if_icmp .ne 5, 3) := by decide +kernel
theorem dX0_right_10 : decode cX0_right 10 = .ok (.iconst 0, 1) := by decide +kernel
theorem dX0_right_11 : decode cX0_right 11 = .ok (.ireturn, 1) := by decide +kernel
theorem dX0_right_12 : decode cX0_right 12 = .ok (.aload_n 0, 1) := by decide +kernel
theorem dX0_right_13 : decode cX0_right 13 = .ok (.getfield 10, 3) := by decide +kernel
theorem dX0_right_16 : decode cX0_right 16 = .ok (.iload_n 1, 1) := by decide +kernel
theorem dX0_right_17 : decode cX0_right 17 = .ok (.invokevirtual 39, 3) := by decide +kernel
theorem dX0_right_20 : decode cX0_right 20 = .ok (.istore_n 2, 1) := by decide +kernel
theorem dX0_right_21 : decode cX0_right 21 = .ok (.aload_n 0, 1) := by decide +kernel
theorem dX0_right_22 : decode cX0_right 22 = .ok (.getfield 26, 3) := by decide +kernel
theorem dX0_right_25 : decode cX0_right 25 = .ok (.aload_n 0, 1) := by decide +kernel
theorem dX0_right_26 : decode cX0_right 26 = .ok (.getfield 43, 3) := by decide +kernel
theorem dX0_right_29 : decode cX0_right 29 = .ok (.aload_n 0, 1) := by decide +kernel
theorem dX0_right_30 : decode cX0_right 30 = .ok (.getfield 23, 3) := by decide +kernel
theorem dX0_right_33 : decode cX0_right 33 = .ok (.iload_n 2, 1) := by decide +kernel
theorem dX0_right_34 : decode cX0_right 34 = .ok (.iaload, 1) := by decide +kernel
theorem dX0_right_35 : decode cX0_right 35 = .ok (.iastore, 1) := by decide +kernel
theorem dX0_right_36 : decode cX0_right 36 = .ok (.aload_n 0, 1) := by decide +kernel
theorem dX0_right_37 : decode cX0_right 37 = .ok (.getfield 23, 3) := by decide +kernel
theorem dX0_right_40 : decode cX0_right 40 = .ok (.iload_n 2, 1) := by decide +kernel
theorem dX0_right_41 : decode cX0_right 41 = .ok (.aload_n 0, 1) := by decide +kernel
theorem dX0_right_42 : decode cX0_right 42 = .ok (.dup, 1) := by decide +kernel
theorem dX0_right_43 : decode cX0_right 43 = .ok (.getfield 43, 3) := by decide +kernel
theorem dX0_right_46 : decode cX0_right 46 = .ok (.dup_x1, 1) := by decide +kernel
theorem dX0_right_47 : decode cX0_right 47 = .ok (.iconst 1, 1) := by decide +kernel
theorem dX0_right_48 : decode cX0_right 48 = .ok (.iadd, 1) := by decide +kernel
theorem dX0_right_49 : decode cX0_right 49 = .ok (.putfield 43, 3) := by decide +kernel
theorem dX0_right_52 : decode cX0_right 52 = .ok (.iastore, 1) := by decide +kernel
theorem dX0_right_53 : decode cX0_right 53 = .ok (.iconst 1, 1) := by decide +kernel
theorem dX0_right_54 : decode cX0_right 54 = .ok (.ireturn, 1) := by decide +kernel
abbrev cX0_copy : ByteArray := prog_1_method_4_code
def yX0_copy : MethodName := ⟨RX0, "copy", "(II)I"⟩
theorem dX0_copy_0 : decode cX0_copy 0 = .ok (.aload_n 0, 1) := by decide +kernel
theorem dX0_copy_1 : decode cX0_copy 1 = .ok (.getfield 35, 3) := by decide +kernel
theorem dX0_copy_4 : decode cX0_copy 4 = .ok (.ifCond .ne 5, 3) := by decide +kernel
theorem dX0_copy_7 : decode cX0_copy 7 = .ok (.iconst (-1), 1) := by decide +kernel
theorem dX0_copy_8 : decode cX0_copy 8 = .ok (.ireturn, 1) := by decide +kernel
theorem dX0_copy_9 : decode cX0_copy 9 = .ok (.iload_n 1, 1) := by decide +kernel
theorem dX0_copy_10 : decode cX0_copy 10 = .ok (.ldc 48, 2) := by decide +kernel
theorem dX0_copy_12 : decode cX0_copy 12 = .ok (.iand, 1) := by decide +kernel
theorem dX0_copy_13 : decode cX0_copy 13 = .ok (.aload_n 0, 1) := by decide +kernel
theorem dX0_copy_14 : decode cX0_copy 14 = .ok (.getfield 35, 3) := by decide +kernel
theorem dX0_copy_17 : decode cX0_copy 17 = .ok (.irem, 1) := by decide +kernel
theorem dX0_copy_18 : decode cX0_copy 18 = .ok (.istore_n 3, 1) := by decide +kernel
theorem dX0_copy_19 : decode cX0_copy 19 = .ok (.iload_n 2, 1) := by decide +kernel
theorem dX0_copy_20 : decode cX0_copy 20 = .ok (.ldc 48, 2) := by decide +kernel
theorem dX0_copy_22 : decode cX0_copy 22 = .ok (.iand, 1) := by decide +kernel
theorem dX0_copy_23 : decode cX0_copy 23 = .ok (.bipush 33, 2) := by decide +kernel
theorem dX0_copy_25 : decode cX0_copy 25 = .ok (.irem, 1) := by decide +kernel
theorem dX0_copy_26 : decode cX0_copy 26 = .ok (.istore 4, 2) := by decide +kernel
theorem dX0_copy_28 : decode cX0_copy 28 = .ok (.iload 4, 2) := by decide +kernel
theorem dX0_copy_30 : decode cX0_copy 30 = .ok (.aload_n 0, 1) := by decide +kernel
theorem dX0_copy_31 : decode cX0_copy 31 = .ok (.getfield 35, 3) := by decide +kernel
theorem dX0_copy_34 : decode cX0_copy 34 = .ok (.iload_n 3, 1) := by decide +kernel
theorem dX0_copy_35 : decode cX0_copy 35 = .ok (.isub, 1) := by decide +kernel
theorem dX0_copy_36 : decode cX0_copy 36 = .ok (.sipush 128, 3) := by decide +kernel
theorem dX0_copy_39 : decode cX0_copy 39 = .ok (.aload_n 0, 1) := by decide +kernel
theorem dX0_copy_40 : decode cX0_copy 40 = .ok (.getfield 43, 3) := by decide +kernel
theorem dX0_copy_43 : decode cX0_copy 43 = .ok (.isub, 1) := by decide +kernel
theorem dX0_copy_44 : decode cX0_copy 44 = .ok (.invokestatic 49, 3) := by decide +kernel
theorem dX0_copy_47 : decode cX0_copy 47 = .ok (.invokestatic 49, 3) := by decide +kernel
theorem dX0_copy_50 : decode cX0_copy 50 = .ok (.istore 4, 2) := by decide +kernel
theorem dX0_copy_52 : decode cX0_copy 52 = .ok (.iconst 0, 1) := by decide +kernel
theorem dX0_copy_53 : decode cX0_copy 53 = .ok (.istore 5, 2) := by decide +kernel
theorem dX0_copy_55 : decode cX0_copy 55 = .ok (.iload 5, 2) := by decide +kernel
theorem dX0_copy_57 : decode cX0_copy 57 = .ok (.iload 4, 2) := by decide +kernel
theorem dX0_copy_59 : decode cX0_copy 59 = .ok (.if_icmp .ge 23, 3) := by decide +kernel
theorem dX0_copy_62 : decode cX0_copy 62 = .ok (.aload_n 0, 1) := by decide +kernel
theorem dX0_copy_63 : decode cX0_copy 63 = .ok (.aload_n 0, 1) := by decide +kernel
theorem dX0_copy_64 : decode cX0_copy 64 = .ok (.getfield 20, 3) := by decide +kernel
theorem dX0_copy_67 : decode cX0_copy 67 = .ok (.iload_n 3, 1) := by decide +kernel
theorem dX0_copy_68 : decode cX0_copy 68 = .ok (.iload 5, 2) := by decide +kernel
theorem dX0_copy_70 : decode cX0_copy 70 = .ok (.iadd, 1) := by decide +kernel
theorem dX0_copy_71 : decode cX0_copy 71 = .ok (.iaload, 1) := by decide +kernel
theorem dX0_copy_72 : decode cX0_copy 72 = .ok (.invokevirtual 55, 3) := by decide +kernel
theorem dX0_copy_75 : decode cX0_copy 75 = .ok (.pop, 1) := by decide +kernel
theorem dX0_copy_76 : decode cX0_copy 76 = .ok (.iinc 5 1, 3) := by decide +kernel
theorem dX0_copy_79 : decode cX0_copy 79 = .ok (.goto (-24), 3) := by decide +kernel
theorem dX0_copy_82 : decode cX0_copy 82 = .ok (.iload 4, 2) := by decide +kernel
theorem dX0_copy_84 : decode cX0_copy 84 = .ok (.ireturn, 1) := by decide +kernel
abbrev cX0_turn : ByteArray := prog_1_method_5_code
def yX0_turn : MethodName := ⟨RX0, "turn", "()I"⟩
theorem dX0_turn_0 : decode cX0_turn 0 = .ok (.iconst 0, 1) := by decide +kernel
theorem dX0_turn_1 : decode cX0_turn 1 = .ok (.istore_n 1, 1) := by decide +kernel
theorem dX0_turn_2 : decode cX0_turn 2 = .ok (.iconst 0, 1) := by decide +kernel
theorem dX0_turn_3 : decode cX0_turn 3 = .ok (.istore_n 2, 1) := by decide +kernel
theorem dX0_turn_4 : decode cX0_turn 4 = .ok (.iload_n 2, 1) := by decide +kernel
theorem dX0_turn_5 : decode cX0_turn 5 = .ok (.aload_n 0, 1) := by decide +kernel
theorem dX0_turn_6 : decode cX0_turn 6 = .ok (.getfield 35, 3) := by decide +kernel
theorem dX0_turn_9 : decode cX0_turn 9 = .ok (.if_icmp .ge 101, 3) := by decide +kernel
theorem dX0_turn_12 : decode cX0_turn 12 = .ok (.aload_n 0, 1) := by decide +kernel
theorem dX0_turn_13 : decode cX0_turn 13 = .ok (.getfield 23, 3) := by decide +kernel
theorem dX0_turn_16 : decode cX0_turn 16 = .ok (.aload_n 0, 1) := by decide +kernel
theorem dX0_turn_17 : decode cX0_turn 17 = .ok (.getfield 16, 3) := by decide +kernel
theorem dX0_turn_20 : decode cX0_turn 20 = .ok (.iload_n 2, 1) := by decide +kernel
theorem dX0_turn_21 : decode cX0_turn 21 = .ok (.iaload, 1) := by decide +kernel
theorem dX0_turn_22 : decode cX0_turn 22 = .ok (.iaload, 1) := by decide +kernel
theorem dX0_turn_23 : decode cX0_turn 23 = .ok (.istore_n 3, 1) := by decide +kernel
theorem dX0_turn_24 : decode cX0_turn 24 = .ok (.iload_n 3, 1) := by decide +kernel
theorem dX0_turn_25 : decode cX0_turn 25 = .ok (.ifCond .lt 79, 3) := by decide +kernel
theorem dX0_turn_28 : decode cX0_turn 28 = .ok (.iconst 0, 1) := by decide +kernel
theorem dX0_turn_29 : decode cX0_turn 29 = .ok (.istore 4, 2) := by decide +kernel
theorem dX0_turn_31 : decode cX0_turn 31 = .ok (.iload_n 1, 1) := by decide +kernel
theorem dX0_turn_32 : decode cX0_turn 32 = .ok (.istore 5, 2) := by decide +kernel
theorem dX0_turn_34 : decode cX0_turn 34 = .ok (.iload 4, 2) := by decide +kernel
theorem dX0_turn_36 : decode cX0_turn 36 = .ok (.iload 5, 2) := by decide +kernel
theorem dX0_turn_38 : decode cX0_turn 38 = .ok (.if_icmp .ge 39, 3) := by decide +kernel
theorem dX0_turn_41 : decode cX0_turn 41 = .ok (.iload 4, 2) := by decide +kernel
theorem dX0_turn_43 : decode cX0_turn 43 = .ok (.iload 5, 2) := by decide +kernel
theorem dX0_turn_45 : decode cX0_turn 45 = .ok (.iadd, 1) := by decide +kernel
theorem dX0_turn_46 : decode cX0_turn 46 = .ok (.iconst 1, 1) := by decide +kernel
theorem dX0_turn_47 : decode cX0_turn 47 = .ok (.ishr, 1) := by decide +kernel
theorem dX0_turn_48 : decode cX0_turn 48 = .ok (.istore 6, 2) := by decide +kernel
theorem dX0_turn_50 : decode cX0_turn 50 = .ok (.aload_n 0, 1) := by decide +kernel
theorem dX0_turn_51 : decode cX0_turn 51 = .ok (.getfield 29, 3) := by decide +kernel
theorem dX0_turn_54 : decode cX0_turn 54 = .ok (.iload 6, 2) := by decide +kernel
theorem dX0_turn_56 : decode cX0_turn 56 = .ok (.iaload, 1) := by decide +kernel
theorem dX0_turn_57 : decode cX0_turn 57 = .ok (.iload_n 3, 1) := by decide +kernel
theorem dX0_turn_58 : decode cX0_turn 58 = .ok (.if_icmp .ge 12, 3) := by decide +kernel
theorem dX0_turn_61 : decode cX0_turn 61 = .ok (.iload 6, 2) := by decide +kernel
theorem dX0_turn_63 : decode cX0_turn 63 = .ok (.iconst 1, 1) := by decide +kernel
theorem dX0_turn_64 : decode cX0_turn 64 = .ok (.iadd, 1) := by decide +kernel
theorem dX0_turn_65 : decode cX0_turn 65 = .ok (.istore 4, 2) := by decide +kernel
theorem dX0_turn_67 : decode cX0_turn 67 = .ok (.goto 7, 3) := by decide +kernel
theorem dX0_turn_70 : decode cX0_turn 70 = .ok (.iload 6, 2) := by decide +kernel
theorem dX0_turn_72 : decode cX0_turn 72 = .ok (.istore 5, 2) := by decide +kernel
theorem dX0_turn_74 : decode cX0_turn 74 = .ok (.goto (-40), 3) := by decide +kernel
theorem dX0_turn_77 : decode cX0_turn 77 = .ok (.aload_n 0, 1) := by decide +kernel
theorem dX0_turn_78 : decode cX0_turn 78 = .ok (.getfield 29, 3) := by decide +kernel
theorem dX0_turn_81 : decode cX0_turn 81 = .ok (.iload 4, 2) := by decide +kernel
theorem dX0_turn_83 : decode cX0_turn 83 = .ok (.iload_n 3, 1) := by decide +kernel
theorem dX0_turn_84 : decode cX0_turn 84 = .ok (.iastore, 1) := by decide +kernel
theorem dX0_turn_85 : decode cX0_turn 85 = .ok (.iload 4, 2) := by decide +kernel
theorem dX0_turn_87 : decode cX0_turn 87 = .ok (.iload_n 1, 1) := by decide +kernel
theorem dX0_turn_88 : decode cX0_turn 88 = .ok (.if_icmp .ne 6, 3) := by decide +kernel
theorem dX0_turn_91 : decode cX0_turn 91 = .ok (.iinc 1 1, 3) := by decide +kernel
theorem dX0_turn_94 : decode cX0_turn 94 = .ok (.aload_n 0, 1) := by decide +kernel
theorem dX0_turn_95 : decode cX0_turn 95 = .ok (.getfield 26, 3) := by decide +kernel
theorem dX0_turn_98 : decode cX0_turn 98 = .ok (.iload_n 3, 1) := by decide +kernel
theorem dX0_turn_99 : decode cX0_turn 99 = .ok (.iaload, 1) := by decide +kernel
theorem dX0_turn_100 : decode cX0_turn 100 = .ok (.istore_n 3, 1) := by decide +kernel
theorem dX0_turn_101 : decode cX0_turn 101 = .ok (.goto (-77), 3) := by decide +kernel
theorem dX0_turn_104 : decode cX0_turn 104 = .ok (.iinc 2 1, 3) := by decide +kernel
theorem dX0_turn_107 : decode cX0_turn 107 = .ok (.goto (-103), 3) := by decide +kernel
theorem dX0_turn_110 : decode cX0_turn 110 = .ok (.aload_n 0, 1) := by decide +kernel
theorem dX0_turn_111 : decode cX0_turn 111 = .ok (.getfield 35, 3) := by decide +kernel
theorem dX0_turn_114 : decode cX0_turn 114 = .ok (.aload_n 0, 1) := by decide +kernel
theorem dX0_turn_115 : decode cX0_turn 115 = .ok (.getfield 43, 3) := by decide +kernel
theorem dX0_turn_118 : decode cX0_turn 118 = .ok (.iadd, 1) := by decide +kernel
theorem dX0_turn_119 : decode cX0_turn 119 = .ok (.iconst 2, 1) := by decide +kernel
theorem dX0_turn_120 : decode cX0_turn 120 = .ok (.iload_n 1, 1) := by decide +kernel
theorem dX0_turn_121 : decode cX0_turn 121 = .ok (.imul, 1) := by decide +kernel
theorem dX0_turn_122 : decode cX0_turn 122 = .ok (.isub, 1) := by decide +kernel
theorem dX0_turn_123 : decode cX0_turn 123 = .ok (.ireturn, 1) := by decide +kernel
theorem q1 : (Jvm.Cond.initialized "LeastScript") ∈ lw_all := lw_g (lw_at lw_m0 1 rfl) rfl
theorem q6 : (Jvm.Cond.instantiable "LeastScript" (8 : Nat)) ∈ lw_all := lw_g (lw_at lw_m0 6 rfl) rfl
theorem q8 : (Jvm.Cond.instanceMethod ({ cls := "LeastScript", name := "<init>", desc := "()V" } : Jvm.MethodName)) ∈ lw_all := lw_g (lw_at lw_m0 8 rfl) rfl
theorem q9 : (Jvm.Cond.code ({ cls := "LeastScript", name := "<init>", desc := "()V" } : Jvm.MethodName) prog_1_method_1_code (1 : Nat) (Option.none : Option Jvm.ClassFile.FieldType)) ∈ lw_all := lw_g (lw_at lw_m0 9 rfl) rfl
theorem q10 : (Jvm.Cond.methodLink "LeastScript" (1 : Nat) ({ cls := "java/lang/Object", name := "<init>", desc := "()V" } : Jvm.MethodName)) ∈ lw_all := lw_g (lw_at lw_m0 10 rfl) rfl
theorem q13 : (Jvm.Cond.classLink "LeastScript" (7 : Nat) "LeastScript$Numbers") ∈ lw_all := lw_g (lw_at lw_m0 13 rfl) rfl
theorem q15 : (Jvm.Cond.methodLink "LeastScript" (9 : Nat) ({ cls := "LeastScript$Numbers", name := "<init>", desc := "()V" } : Jvm.MethodName)) ∈ lw_all := lw_g (lw_at lw_m0 15 rfl) rfl
theorem q34 : (Jvm.Cond.methodLink "LeastScript" (32 : Nat) ({ cls := "LeastScript", name := "clear", desc := "()V" } : Jvm.MethodName)) ∈ lw_all := lw_g (lw_at lw_m0 34 rfl) rfl
theorem q35 : (Jvm.Cond.instanceMethod ({ cls := "LeastScript", name := "clear", desc := "()V" } : Jvm.MethodName)) ∈ lw_all := lw_g (lw_at lw_m0 35 rfl) rfl
theorem q36 : (Jvm.Cond.selects "LeastScript" ({ cls := "LeastScript", name := "clear", desc := "()V" } : Jvm.MethodName) ({ cls := "LeastScript", name := "clear", desc := "()V" } : Jvm.MethodName)) ∈ lw_all := lw_g (lw_at lw_m0 36 rfl) rfl
theorem q37 : (Jvm.Cond.code ({ cls := "LeastScript", name := "clear", desc := "()V" } : Jvm.MethodName) prog_1_method_6_code (2 : Nat) (Option.none : Option Jvm.ClassFile.FieldType)) ∈ lw_all := lw_g (lw_at lw_m0 37 rfl) rfl
theorem q38 : (Jvm.Cond.methodLink "LeastScript" (59 : Nat) ({ cls := "LeastScript$Numbers", name := "clear", desc := "()V" } : Jvm.MethodName)) ∈ lw_all := lw_g (lw_at lw_m0 38 rfl) rfl
theorem q39 : (Jvm.Cond.fieldLink "LeastScript" (10 : Nat) "LeastScript" "numbers" "LLeastScript$Numbers;") ∈ lw_all := lw_g (lw_at lw_m0 39 rfl) rfl
theorem q40 : (Jvm.Cond.fieldLink "LeastScript" (16 : Nat) "LeastScript" "left" "[I") ∈ lw_all := lw_g (lw_at lw_m0 40 rfl) rfl
theorem q41 : (Jvm.Cond.fieldLink "LeastScript" (20 : Nat) "LeastScript" "leftLine" "[I") ∈ lw_all := lw_g (lw_at lw_m0 41 rfl) rfl
theorem q42 : (Jvm.Cond.fieldLink "LeastScript" (23 : Nat) "LeastScript" "last" "[I") ∈ lw_all := lw_g (lw_at lw_m0 42 rfl) rfl
theorem q43 : (Jvm.Cond.fieldLink "LeastScript" (26 : Nat) "LeastScript" "before" "[I") ∈ lw_all := lw_g (lw_at lw_m0 43 rfl) rfl
theorem q44 : (Jvm.Cond.fieldLink "LeastScript" (35 : Nat) "LeastScript" "lefts" "I") ∈ lw_all := lw_g (lw_at lw_m0 44 rfl) rfl
theorem q45 : (Jvm.Cond.fieldLink "LeastScript" (43 : Nat) "LeastScript" "rights" "I") ∈ lw_all := lw_g (lw_at lw_m0 45 rfl) rfl
theorem q46 : (Jvm.Cond.fieldLink "LeastScript" (29 : Nat) "LeastScript" "ends" "[I") ∈ lw_all := lw_g (lw_at lw_m0 46 rfl) rfl
theorem q47 : (Jvm.Cond.laysFinal "LeastScript" "LeastScript" "numbers" "LLeastScript$Numbers;") ∈ lw_all := lw_g (lw_at lw_m0 47 rfl) rfl
theorem q48 : (Jvm.Cond.soleField "LeastScript" "numbers") ∈ lw_all := lw_g (lw_at lw_m0 48 rfl) rfl
theorem q49 : (Jvm.Cond.laysFinal "LeastScript" "LeastScript" "left" "[I") ∈ lw_all := lw_g (lw_at lw_m0 49 rfl) rfl
theorem q50 : (Jvm.Cond.soleField "LeastScript" "left") ∈ lw_all := lw_g (lw_at lw_m0 50 rfl) rfl
theorem q51 : (Jvm.Cond.laysFinal "LeastScript" "LeastScript" "leftLine" "[I") ∈ lw_all := lw_g (lw_at lw_m0 51 rfl) rfl
theorem q52 : (Jvm.Cond.soleField "LeastScript" "leftLine") ∈ lw_all := lw_g (lw_at lw_m0 52 rfl) rfl
theorem q53 : (Jvm.Cond.laysFinal "LeastScript" "LeastScript" "last" "[I") ∈ lw_all := lw_g (lw_at lw_m0 53 rfl) rfl
theorem q54 : (Jvm.Cond.soleField "LeastScript" "last") ∈ lw_all := lw_g (lw_at lw_m0 54 rfl) rfl
theorem q55 : (Jvm.Cond.laysFinal "LeastScript" "LeastScript" "before" "[I") ∈ lw_all := lw_g (lw_at lw_m0 55 rfl) rfl
theorem q56 : (Jvm.Cond.soleField "LeastScript" "before") ∈ lw_all := lw_g (lw_at lw_m0 56 rfl) rfl
theorem q57 : (Jvm.Cond.lays "LeastScript" "LeastScript" "lefts" "I") ∈ lw_all := lw_g (lw_at lw_m0 57 rfl) rfl
theorem q58 : (Jvm.Cond.soleField "LeastScript" "lefts") ∈ lw_all := lw_g (lw_at lw_m0 58 rfl) rfl
theorem q59 : (Jvm.Cond.lays "LeastScript" "LeastScript" "rights" "I") ∈ lw_all := lw_g (lw_at lw_m0 59 rfl) rfl
theorem q60 : (Jvm.Cond.soleField "LeastScript" "rights") ∈ lw_all := lw_g (lw_at lw_m0 60 rfl) rfl
theorem q61 : (Jvm.Cond.laysFinal "LeastScript" "LeastScript" "ends" "[I") ∈ lw_all := lw_g (lw_at lw_m0 61 rfl) rfl
theorem q62 : (Jvm.Cond.soleField "LeastScript" "ends") ∈ lw_all := lw_g (lw_at lw_m0 62 rfl) rfl
theorem q63 : (Jvm.Cond.superclass "LeastScript" "java/lang/Object") ∈ lw_all := lw_g (lw_at lw_m0 63 rfl) rfl
theorem q65 : (Jvm.Cond.instanceMethod ({ cls := "LeastScript", name := "left", desc := "(I)Z" } : Jvm.MethodName)) ∈ lw_all := lw_g (lw_at lw_m0 65 rfl) rfl
theorem q66 : (Jvm.Cond.selects "LeastScript" ({ cls := "LeastScript", name := "left", desc := "(I)Z" } : Jvm.MethodName) ({ cls := "LeastScript", name := "left", desc := "(I)Z" } : Jvm.MethodName)) ∈ lw_all := lw_g (lw_at lw_m0 66 rfl) rfl
theorem q67 : (Jvm.Cond.code ({ cls := "LeastScript", name := "left", desc := "(I)Z" } : Jvm.MethodName) prog_1_method_2_code (2 : Nat) (Option.some Jvm.ClassFile.FieldType.boolean)) ∈ lw_all := lw_g (lw_at lw_m0 67 rfl) rfl
theorem q68 : (Jvm.Cond.methodLink "LeastScript" (39 : Nat) ({ cls := "LeastScript$Numbers", name := "of", desc := "(I)I" } : Jvm.MethodName)) ∈ lw_all := lw_g (lw_at lw_m0 68 rfl) rfl
theorem q74 : (Jvm.Cond.instanceMethod ({ cls := "LeastScript", name := "right", desc := "(I)Z" } : Jvm.MethodName)) ∈ lw_all := lw_g (lw_at lw_m0 74 rfl) rfl
theorem q75 : (Jvm.Cond.selects "LeastScript" ({ cls := "LeastScript", name := "right", desc := "(I)Z" } : Jvm.MethodName) ({ cls := "LeastScript", name := "right", desc := "(I)Z" } : Jvm.MethodName)) ∈ lw_all := lw_g (lw_at lw_m0 75 rfl) rfl
theorem q76 : (Jvm.Cond.code ({ cls := "LeastScript", name := "right", desc := "(I)Z" } : Jvm.MethodName) prog_1_method_3_code (3 : Nat) (Option.some Jvm.ClassFile.FieldType.boolean)) ∈ lw_all := lw_g (lw_at lw_m0 76 rfl) rfl
theorem q78 : (Jvm.Cond.instanceMethod ({ cls := "LeastScript", name := "copy", desc := "(II)I" } : Jvm.MethodName)) ∈ lw_all := lw_g (lw_at lw_m0 78 rfl) rfl
theorem q79 : (Jvm.Cond.selects "LeastScript" ({ cls := "LeastScript", name := "copy", desc := "(II)I" } : Jvm.MethodName) ({ cls := "LeastScript", name := "copy", desc := "(II)I" } : Jvm.MethodName)) ∈ lw_all := lw_g (lw_at lw_m0 79 rfl) rfl
theorem q80 : (Jvm.Cond.code ({ cls := "LeastScript", name := "copy", desc := "(II)I" } : Jvm.MethodName) prog_1_method_4_code (6 : Nat) (Option.some Jvm.ClassFile.FieldType.int)) ∈ lw_all := lw_g (lw_at lw_m0 80 rfl) rfl
theorem q81 : (Jvm.Cond.constant "LeastScript" (48 : Nat) (2147483647 : Int32)) ∈ lw_all := lw_g (lw_at lw_m0 81 rfl) rfl
theorem q82 : (Jvm.Cond.methodLink "LeastScript" (49 : Nat) ({ cls := "java/lang/Math", name := "min", desc := "(II)I" } : Jvm.MethodName)) ∈ lw_all := lw_g (lw_at lw_m0 82 rfl) rfl
theorem q85 : (Jvm.Cond.methodLink "LeastScript" (55 : Nat) ({ cls := "LeastScript", name := "right", desc := "(I)Z" } : Jvm.MethodName)) ∈ lw_all := lw_g (lw_at lw_m0 85 rfl) rfl
theorem q87 : (Jvm.Cond.instanceMethod ({ cls := "LeastScript", name := "turn", desc := "()I" } : Jvm.MethodName)) ∈ lw_all := lw_g (lw_at lw_m0 87 rfl) rfl
theorem q88 : (Jvm.Cond.selects "LeastScript" ({ cls := "LeastScript", name := "turn", desc := "()I" } : Jvm.MethodName) ({ cls := "LeastScript", name := "turn", desc := "()I" } : Jvm.MethodName)) ∈ lw_all := lw_g (lw_at lw_m0 88 rfl) rfl
theorem q89 : (Jvm.Cond.code ({ cls := "LeastScript", name := "turn", desc := "()I" } : Jvm.MethodName) prog_1_method_5_code (7 : Nat) (Option.some Jvm.ClassFile.FieldType.int)) ∈ lw_all := lw_g (lw_at lw_m0 89 rfl) rfl
theorem in_X0 : ∀ w ∈ wsX00, w ∈ lw_all := lw_in wsX00 [47, 49, 51, 53, 55, 57, 59, 61] (by decide +kernel) (by decide +kernel)
end
section
set_option maxRecDepth 100000
/-! LeastScriptModel -/
def RX2 : String := "LeastScriptModel"
def TX2 : u_T := fun k => match k with
  | 0 => ("LeastScriptModel", "a", "[I", true)
  | 1 => ("LeastScriptModel", "b", "[I", true)
  | 2 => ("LeastScriptModel", "n", "I", false)
  | 3 => ("LeastScriptModel", "m", "I", false)
  | _ => ("LeastScriptModel", "row", "[I", true)
def tyX2 : Nat → FieldType := fun k => match k with
  | 0 => .array .int
  | 1 => .array .int
  | 2 => .int
  | 3 => .int
  | _ => .array .int
abbrev wsX20 : List Cond := u_ws RX2 TX2 5
theorem nmX2 : ∀ a, a < 5 → ∀ b, b < 5 → a ≠ b → (TX2 a).2.1 ≠ (TX2 b).2.1 := by decide +kernel
theorem tyX2_ok : ∀ k, k < 5 → parseFieldDescriptor (TX2 k).2.2.1 = some (tyX2 k) := by decide +kernel
abbrev cX2_init : ByteArray := prog_4_method_1_code
def yX2_init : MethodName := ⟨RX2, "<init>", "()V"⟩
theorem dX2_init_0 : decode cX2_init 0 = .ok (.aload_n 0, 1) := by decide +kernel
theorem dX2_init_1 : decode cX2_init 1 = .ok (.invokespecial 1, 3) := by decide +kernel
theorem dX2_init_4 : decode cX2_init 4 = .ok (.aload_n 0, 1) := by decide +kernel
theorem dX2_init_5 : decode cX2_init 5 = .ok (.sipush 128, 3) := by decide +kernel
theorem dX2_init_8 : decode cX2_init 8 = .ok (.newarray .int, 2) := by decide +kernel
theorem dX2_init_10 : decode cX2_init 10 = .ok (.putfield 7, 3) := by decide +kernel
theorem dX2_init_13 : decode cX2_init 13 = .ok (.aload_n 0, 1) := by decide +kernel
theorem dX2_init_14 : decode cX2_init 14 = .ok (.sipush 128, 3) := by decide +kernel
theorem dX2_init_17 : decode cX2_init 17 = .ok (.newarray .int, 2) := by decide +kernel
theorem dX2_init_19 : decode cX2_init 19 = .ok (.putfield 13, 3) := by decide +kernel
theorem dX2_init_22 : decode cX2_init 22 = .ok (.aload_n 0, 1) := by decide +kernel
theorem dX2_init_23 : decode cX2_init 23 = .ok (.sipush 129, 3) := by decide +kernel
theorem dX2_init_26 : decode cX2_init 26 = .ok (.newarray .int, 2) := by decide +kernel
theorem dX2_init_28 : decode cX2_init 28 = .ok (.putfield 16, 3) := by decide +kernel
theorem dX2_init_31 : decode cX2_init 31 = .ok (.return_, 1) := by decide +kernel
abbrev cX2_left : ByteArray := prog_4_method_2_code
def yX2_left : MethodName := ⟨RX2, "left", "(I)Z"⟩
theorem dX2_left_0 : decode cX2_left 0 = .ok (.aload_n 0, 1) := by decide +kernel
theorem dX2_left_1 : decode cX2_left 1 = .ok (.getfield 19, 3) := by decide +kernel
theorem dX2_left_4 : decode cX2_left 4 = .ok (.sipush 128, 3) := by decide +kernel
theorem dX2_left_7 : decode cX2_left 7 = .ok (.if_icmp .ne 5, 3) := by decide +kernel
theorem dX2_left_10 : decode cX2_left 10 = .ok (.iconst 0, 1) := by decide +kernel
theorem dX2_left_11 : decode cX2_left 11 = .ok (.ireturn, 1) := by decide +kernel
theorem dX2_left_12 : decode cX2_left 12 = .ok (.aload_n 0, 1) := by decide +kernel
theorem dX2_left_13 : decode cX2_left 13 = .ok (.getfield 7, 3) := by decide +kernel
theorem dX2_left_16 : decode cX2_left 16 = .ok (.aload_n 0, 1) := by decide +kernel
theorem dX2_left_17 : decode cX2_left 17 = .ok (.getfield 19, 3) := by decide +kernel
theorem dX2_left_20 : decode cX2_left 20 = .ok (.iload_n 1, 1) := by decide +kernel
theorem dX2_left_21 : decode cX2_left 21 = .ok (.iastore, 1) := by decide +kernel
theorem dX2_left_22 : decode cX2_left 22 = .ok (.aload_n 0, 1) := by decide +kernel
theorem dX2_left_23 : decode cX2_left 23 = .ok (.aload_n 0, 1) := by decide +kernel
theorem dX2_left_24 : decode cX2_left 24 = .ok (.getfield 19, 3) := by decide +kernel
theorem dX2_left_27 : decode cX2_left 27 = .ok (.iconst 1, 1) := by decide +kernel
theorem dX2_left_28 : decode cX2_left 28 = .ok (.iadd, 1) := by decide +kernel
theorem dX2_left_29 : decode cX2_left 29 = .ok (.putfield 19, 3) := by decide +kernel
theorem dX2_left_32 : decode cX2_left 32 = .ok (.iconst 1, 1) := by decide +kernel
theorem dX2_left_33 : decode cX2_left 33 = .ok (.ireturn, 1) := by decide +kernel
abbrev cX2_right : ByteArray := prog_4_method_3_code
def yX2_right : MethodName := ⟨RX2, "right", "(I)Z"⟩
theorem dX2_right_0 : decode cX2_right 0 = .ok (.aload_n 0, 1) := by decide +kernel
theorem dX2_right_1 : decode cX2_right 1 = .ok (.getfield 23, 3) := by decide +kernel
theorem dX2_right_4 : decode cX2_right 4 = .ok (.sipush 128, 3) := by decide +kernel
theorem dX2_right_7 : decode cX2_right 7 = .ok (.if_icmp .ne 5, 3) := by decide +kernel
theorem dX2_right_10 : decode cX2_right 10 = .ok (.iconst 0, 1) := by decide +kernel
theorem dX2_right_11 : decode cX2_right 11 = .ok (.ireturn, 1) := by decide +kernel
theorem dX2_right_12 : decode cX2_right 12 = .ok (.aload_n 0, 1) := by decide +kernel
theorem dX2_right_13 : decode cX2_right 13 = .ok (.getfield 13, 3) := by decide +kernel
theorem dX2_right_16 : decode cX2_right 16 = .ok (.aload_n 0, 1) := by decide +kernel
theorem dX2_right_17 : decode cX2_right 17 = .ok (.getfield 23, 3) := by decide +kernel
theorem dX2_right_20 : decode cX2_right 20 = .ok (.iload_n 1, 1) := by decide +kernel
theorem dX2_right_21 : decode cX2_right 21 = .ok (.iastore, 1) := by decide +kernel
theorem dX2_right_22 : decode cX2_right 22 = .ok (.aload_n 0, 1) := by decide +kernel
theorem dX2_right_23 : decode cX2_right 23 = .ok (.aload_n 0, 1) := by decide +kernel
theorem dX2_right_24 : decode cX2_right 24 = .ok (.getfield 23, 3) := by decide +kernel
theorem dX2_right_27 : decode cX2_right 27 = .ok (.iconst 1, 1) := by decide +kernel
theorem dX2_right_28 : decode cX2_right 28 = .ok (.iadd, 1) := by decide +kernel
theorem dX2_right_29 : decode cX2_right 29 = .ok (.putfield 23, 3) := by decide +kernel
theorem dX2_right_32 : decode cX2_right 32 = .ok (.iconst 1, 1) := by decide +kernel
theorem dX2_right_33 : decode cX2_right 33 = .ok (.ireturn, 1) := by decide +kernel
abbrev cX2_copy : ByteArray := prog_4_method_4_code
def yX2_copy : MethodName := ⟨RX2, "copy", "(II)I"⟩
theorem dX2_copy_0 : decode cX2_copy 0 = .ok (.aload_n 0, 1) := by decide +kernel
theorem dX2_copy_1 : decode cX2_copy 1 = .ok (.getfield 19, 3) := by decide +kernel
theorem dX2_copy_4 : decode cX2_copy 4 = .ok (.ifCond .ne 5, 3) := by decide +kernel
theorem dX2_copy_7 : decode cX2_copy 7 = .ok (.iconst (-1), 1) := by decide +kernel
theorem dX2_copy_8 : decode cX2_copy 8 = .ok (.ireturn, 1) := by decide +kernel
theorem dX2_copy_9 : decode cX2_copy 9 = .ok (.iload_n 1, 1) := by decide +kernel
theorem dX2_copy_10 : decode cX2_copy 10 = .ok (.ldc 26, 2) := by decide +kernel
theorem dX2_copy_12 : decode cX2_copy 12 = .ok (.iand, 1) := by decide +kernel
theorem dX2_copy_13 : decode cX2_copy 13 = .ok (.aload_n 0, 1) := by decide +kernel
theorem dX2_copy_14 : decode cX2_copy 14 = .ok (.getfield 19, 3) := by decide +kernel
theorem dX2_copy_17 : decode cX2_copy 17 = .ok (.irem, 1) := by decide +kernel
theorem dX2_copy_18 : decode cX2_copy 18 = .ok (.istore_n 3, 1) := by decide +kernel
theorem dX2_copy_19 : decode cX2_copy 19 = .ok (.iload_n 2, 1) := by decide +kernel
theorem dX2_copy_20 : decode cX2_copy 20 = .ok (.ldc 26, 2) := by decide +kernel
theorem dX2_copy_22 : decode cX2_copy 22 = .ok (.iand, 1) := by decide +kernel
theorem dX2_copy_23 : decode cX2_copy 23 = .ok (.bipush 33, 2) := by decide +kernel
theorem dX2_copy_25 : decode cX2_copy 25 = .ok (.irem, 1) := by decide +kernel
theorem dX2_copy_26 : decode cX2_copy 26 = .ok (.istore 4, 2) := by decide +kernel
theorem dX2_copy_28 : decode cX2_copy 28 = .ok (.iload_n 3, 1) := by decide +kernel
theorem dX2_copy_29 : decode cX2_copy 29 = .ok (.iload 4, 2) := by decide +kernel
theorem dX2_copy_31 : decode cX2_copy 31 = .ok (.iadd, 1) := by decide +kernel
theorem dX2_copy_32 : decode cX2_copy 32 = .ok (.aload_n 0, 1) := by decide +kernel
theorem dX2_copy_33 : decode cX2_copy 33 = .ok (.getfield 19, 3) := by decide +kernel
theorem dX2_copy_36 : decode cX2_copy 36 = .ok (.if_icmp .le 11, 3) := by decide +kernel
theorem dX2_copy_39 : decode cX2_copy 39 = .ok (.aload_n 0, 1) := by decide +kernel
theorem dX2_copy_40 : decode cX2_copy 40 = .ok (.getfield 19, 3) := by decide +kernel
theorem dX2_copy_43 : decode cX2_copy 43 = .ok (.iload_n 3, 1) := by decide +kernel
theorem dX2_copy_44 : decode cX2_copy 44 = .ok (.isub, 1) := by decide +kernel
theorem dX2_copy_45 : decode cX2_copy 45 = .ok (.istore 4, 2) := by decide +kernel
theorem dX2_copy_47 : decode cX2_copy 47 = .ok (.aload_n 0, 1) := by decide +kernel
theorem dX2_copy_48 : decode cX2_copy 48 = .ok (.getfield 23, 3) := by decide +kernel
theorem dX2_copy_51 : decode cX2_copy 51 = .ok (.iload 4, 2) := by decide +kernel
theorem dX2_copy_53 : decode cX2_copy 53 = .ok (.iadd, 1) := by decide +kernel
theorem dX2_copy_54 : decode cX2_copy 54 = .ok (.sipush 128, 3) := by decide +kernel
theorem dX2_copy_57 : decode cX2_copy 57 = .ok (.if_icmp .le 13, 3) := by decide +kernel
theorem dX2_copy_60 : decode cX2_copy 60 = .ok (.sipush 128, 3) := by decide +kernel
theorem dX2_copy_63 : decode cX2_copy 63 = .ok (.aload_n 0, 1) := by decide +kernel
theorem dX2_copy_64 : decode cX2_copy 64 = .ok (.getfield 23, 3) := by decide +kernel
theorem dX2_copy_67 : decode cX2_copy 67 = .ok (.isub, 1) := by decide +kernel
theorem dX2_copy_68 : decode cX2_copy 68 = .ok (.istore 4, 2) := by decide +kernel
theorem dX2_copy_70 : decode cX2_copy 70 = .ok (.iconst 0, 1) := by decide +kernel
theorem dX2_copy_71 : decode cX2_copy 71 = .ok (.istore 5, 2) := by decide +kernel
theorem dX2_copy_73 : decode cX2_copy 73 = .ok (.iload 5, 2) := by decide +kernel
theorem dX2_copy_75 : decode cX2_copy 75 = .ok (.iload 4, 2) := by decide +kernel
theorem dX2_copy_77 : decode cX2_copy 77 = .ok (.if_icmp .ge 37, 3) := by decide +kernel
theorem dX2_copy_80 : decode cX2_copy 80 = .ok (.aload_n 0, 1) := by decide +kernel
theorem dX2_copy_81 : decode cX2_copy 81 = .ok (.getfield 13, 3) := by decide +kernel
theorem dX2_copy_84 : decode cX2_copy 84 = .ok (.aload_n 0, 1) := by decide +kernel
theorem dX2_copy_85 : decode cX2_copy 85 = .ok (.getfield 23, 3) := by decide +kernel
theorem dX2_copy_88 : decode cX2_copy 88 = .ok (.aload_n 0, 1) := by decide +kernel
theorem dX2_copy_89 : decode cX2_copy 89 = .ok (.getfield 7, 3) := by decide +kernel
theorem dX2_copy_92 : decode cX2_copy 92 = .ok (.iload_n 3, 1) := by decide +kernel
theorem dX2_copy_93 : decode cX2_copy 93 = .ok (.iload 5, 2) := by decide +kernel
theorem dX2_copy_95 : decode cX2_copy 95 = .ok (.iadd, 1) := by decide +kernel
theorem dX2_copy_96 : decode cX2_copy 96 = .ok (.iaload, 1) := by decide +kernel
theorem dX2_copy_97 : decode cX2_copy 97 = .ok (.iastore, 1) := by decide +kernel
theorem dX2_copy_98 : decode cX2_copy 98 = .ok (.aload_n 0, 1) := by decide +kernel
theorem dX2_copy_99 : decode cX2_copy 99 = .ok (.aload_n 0, 1) := by decide +kernel
theorem dX2_copy_100 : decode cX2_copy 100 = .ok (.getfield 23, 3) := by decide +kernel
theorem dX2_copy_103 : decode cX2_copy 103 = .ok (.iconst 1, 1) := by decide +kernel
theorem dX2_copy_104 : decode cX2_copy 104 = .ok (.iadd, 1) := by decide +kernel
theorem dX2_copy_105 : decode cX2_copy 105 = .ok (.putfield 23, 3) := by decide +kernel
theorem dX2_copy_108 : decode cX2_copy 108 = .ok (.iinc 5 1, 3) := by decide +kernel
theorem dX2_copy_111 : decode cX2_copy 111 = .ok (.goto (-38), 3) := by decide +kernel
theorem dX2_copy_114 : decode cX2_copy 114 = .ok (.iload 4, 2) := by decide +kernel
theorem dX2_copy_116 : decode cX2_copy 116 = .ok (.ireturn, 1) := by decide +kernel
abbrev cX2_turn : ByteArray := prog_4_method_5_code
def yX2_turn : MethodName := ⟨RX2, "turn", "()I"⟩
theorem dX2_turn_0 : decode cX2_turn 0 = .ok (.iconst 0, 1) := by decide +kernel
theorem dX2_turn_1 : decode cX2_turn 1 = .ok (.istore_n 1, 1) := by decide +kernel
theorem dX2_turn_2 : decode cX2_turn 2 = .ok (.iload_n 1, 1) := by decide +kernel
theorem dX2_turn_3 : decode cX2_turn 3 = .ok (.aload_n 0, 1) := by decide +kernel
theorem dX2_turn_4 : decode cX2_turn 4 = .ok (.getfield 23, 3) := by decide +kernel
theorem dX2_turn_7 : decode cX2_turn 7 = .ok (.if_icmp .gt 16, 3) := by decide +kernel
theorem dX2_turn_10 : decode cX2_turn 10 = .ok (.aload_n 0, 1) := by decide +kernel
theorem dX2_turn_11 : decode cX2_turn 11 = .ok (.getfield 16, 3) := by decide +kernel
theorem dX2_turn_14 : decode cX2_turn 14 = .ok (.iload_n 1, 1) := by decide +kernel
theorem dX2_turn_15 : decode cX2_turn 15 = .ok (.iconst 0, 1) := by decide +kernel
theorem dX2_turn_16 : decode cX2_turn 16 = .ok (.iastore, 1) := by decide +kernel
theorem dX2_turn_17 : decode cX2_turn 17 = .ok (.iinc 1 1, 3) := by decide +kernel
theorem dX2_turn_20 : decode cX2_turn 20 = .ok (.goto (-18), 3) := by decide +kernel
theorem dX2_turn_23 : decode cX2_turn 23 = .ok (.iconst 0, 1) := by decide +kernel
theorem dX2_turn_24 : decode cX2_turn 24 = .ok (.istore_n 1, 1) := by decide +kernel
theorem dX2_turn_25 : decode cX2_turn 25 = .ok (.iload_n 1, 1) := by decide +kernel
theorem dX2_turn_26 : decode cX2_turn 26 = .ok (.aload_n 0, 1) := by decide +kernel
theorem dX2_turn_27 : decode cX2_turn 27 = .ok (.getfield 19, 3) := by decide +kernel
theorem dX2_turn_30 : decode cX2_turn 30 = .ok (.if_icmp .ge 91, 3) := by decide +kernel
theorem dX2_turn_33 : decode cX2_turn 33 = .ok (.iconst 0, 1) := by decide +kernel
theorem dX2_turn_34 : decode cX2_turn 34 = .ok (.istore_n 2, 1) := by decide +kernel
theorem dX2_turn_35 : decode cX2_turn 35 = .ok (.iconst 0, 1) := by decide +kernel
theorem dX2_turn_36 : decode cX2_turn 36 = .ok (.istore_n 3, 1) := by decide +kernel
theorem dX2_turn_37 : decode cX2_turn 37 = .ok (.iload_n 3, 1) := by decide +kernel
theorem dX2_turn_38 : decode cX2_turn 38 = .ok (.aload_n 0, 1) := by decide +kernel
theorem dX2_turn_39 : decode cX2_turn 39 = .ok (.getfield 23, 3) := by decide +kernel
theorem dX2_turn_42 : decode cX2_turn 42 = .ok (.if_icmp .ge 73, 3) := by decide +kernel
theorem dX2_turn_45 : decode cX2_turn 45 = .ok (.aload_n 0, 1) := by decide +kernel
theorem dX2_turn_46 : decode cX2_turn 46 = .ok (.getfield 16, 3) := by decide +kernel
theorem dX2_turn_49 : decode cX2_turn 49 = .ok (.iload_n 3, 1) := by decide +kernel
theorem dX2_turn_50 : decode cX2_turn 50 = .ok (.iconst 1, 1) := by decide +kernel
theorem dX2_turn_51 : decode cX2_turn 51 = .ok (.iadd, 1) := by decide +kernel
theorem dX2_turn_52 : decode cX2_turn 52 = .ok (.iaload, 1) := by decide +kernel
theorem dX2_turn_53 : decode cX2_turn 53 = .ok (.istore 4, 2) := by decide +kernel
theorem dX2_turn_55 : decode cX2_turn 55 = .ok (.aload_n 0, 1) := by decide +kernel
theorem dX2_turn_56 : decode cX2_turn 56 = .ok (.getfield 16, 3) := by decide +kernel
theorem dX2_turn_59 : decode cX2_turn 59 = .ok (.iload_n 3, 1) := by decide +kernel
theorem dX2_turn_60 : decode cX2_turn 60 = .ok (.iconst 1, 1) := by decide +kernel
theorem dX2_turn_61 : decode cX2_turn 61 = .ok (.iadd, 1) := by decide +kernel
theorem dX2_turn_62 : decode cX2_turn 62 = .ok (.aload_n 0, 1) := by decide +kernel
theorem dX2_turn_63 : decode cX2_turn 63 = .ok (.getfield 7, 3) := by decide +kernel
theorem dX2_turn_66 : decode cX2_turn 66 = .ok (.iload_n 1, 1) := by decide +kernel
theorem dX2_turn_67 : decode cX2_turn 67 = .ok (.iaload, 1) := by decide +kernel
theorem dX2_turn_68 : decode cX2_turn 68 = .ok (.aload_n 0, 1) := by decide +kernel
theorem dX2_turn_69 : decode cX2_turn 69 = .ok (.getfield 13, 3) := by decide +kernel
theorem dX2_turn_72 : decode cX2_turn 72 = .ok (.iload_n 3, 1) := by decide +kernel
theorem dX2_turn_73 : decode cX2_turn 73 = .ok (.iaload, 1) := by decide +kernel
theorem dX2_turn_74 : decode cX2_turn 74 = .ok (.if_icmp .ne 9, 3) := by decide +kernel
theorem dX2_turn_77 : decode cX2_turn 77 = .ok (.iload_n 2, 1) := by decide +kernel
theorem dX2_turn_78 : decode cX2_turn 78 = .ok (.iconst 1, 1) := by decide +kernel
theorem dX2_turn_79 : decode cX2_turn 79 = .ok (.iadd, 1) := by decide +kernel
theorem dX2_turn_80 : decode cX2_turn 80 = .ok (.goto 25, 3) := by decide +kernel
theorem dX2_turn_83 : decode cX2_turn 83 = .ok (.iload 4, 2) := by decide +kernel
theorem dX2_turn_85 : decode cX2_turn 85 = .ok (.aload_n 0, 1) := by decide +kernel
theorem dX2_turn_86 : decode cX2_turn 86 = .ok (.getfield 16, 3) := by decide +kernel
theorem dX2_turn_89 : decode cX2_turn 89 = .ok (.iload_n 3, 1) := by decide +kernel
theorem dX2_turn_90 : decode cX2_turn 90 = .ok (.iaload, 1) := by decide +kernel
theorem dX2_turn_91 : decode cX2_turn 91 = .ok (.if_icmp .le 8, 3) := by decide +kernel
theorem dX2_turn_94 : decode cX2_turn 94 = .ok (.iload 4, 2) := by decide +kernel
theorem dX2_turn_96 : decode cX2_turn 96 = .ok (.goto 9, 3) := by decide +kernel
theorem dX2_turn_99 : decode cX2_turn 99 = .ok (.aload_n 0, 1) := by decide +kernel
theorem dX2_turn_100 : decode cX2_turn 100 = .ok (.getfield 16, 3) := by decide +kernel
theorem dX2_turn_103 : decode cX2_turn 103 = .ok (.iload_n 3, 1) := by decide +kernel
theorem dX2_turn_104 : decode cX2_turn 104 = .ok (.iaload, 1) := by decide +kernel
theorem dX2_turn_105 : decode cX2_turn 105 = .ok (.iastore, 1) := by decide +kernel
theorem dX2_turn_106 : decode cX2_turn 106 = .ok (.iload 4, 2) := by decide +kernel
theorem dX2_turn_108 : decode cX2_turn 108 = .ok (.istore_n 2, 1) := by decide +kernel
theorem dX2_turn_109 : decode cX2_turn 109 = .ok (.iinc 3 1, 3) := by decide +kernel
theorem dX2_turn_112 : decode cX2_turn 112 = .ok (.goto (-75), 3) := by decide +kernel
theorem dX2_turn_115 : decode cX2_turn 115 = .ok (.iinc 1 1, 3) := by decide +kernel
theorem dX2_turn_118 : decode cX2_turn 118 = .ok (.goto (-93), 3) := by decide +kernel
theorem dX2_turn_121 : decode cX2_turn 121 = .ok (.aload_n 0, 1) := by decide +kernel
theorem dX2_turn_122 : decode cX2_turn 122 = .ok (.getfield 19, 3) := by decide +kernel
theorem dX2_turn_125 : decode cX2_turn 125 = .ok (.aload_n 0, 1) := by decide +kernel
theorem dX2_turn_126 : decode cX2_turn 126 = .ok (.getfield 23, 3) := by decide +kernel
theorem dX2_turn_129 : decode cX2_turn 129 = .ok (.iadd, 1) := by decide +kernel
theorem dX2_turn_130 : decode cX2_turn 130 = .ok (.iconst 2, 1) := by decide +kernel
theorem dX2_turn_131 : decode cX2_turn 131 = .ok (.aload_n 0, 1) := by decide +kernel
theorem dX2_turn_132 : decode cX2_turn 132 = .ok (.getfield 16, 3) := by decide +kernel
theorem dX2_turn_135 : decode cX2_turn 135 = .ok (.aload_n 0, 1) := by decide +kernel
theorem dX2_turn_136 : decode cX2_turn 136 = .ok (.getfield 23, 3) := by decide +kernel
theorem dX2_turn_139 : decode cX2_turn 139 = .ok (.iaload, 1) := by decide +kernel
theorem dX2_turn_140 : decode cX2_turn 140 = .ok (.imul, 1) := by decide +kernel
theorem dX2_turn_141 : decode cX2_turn 141 = .ok (.isub, 1) := by decide +kernel
theorem dX2_turn_142 : decode cX2_turn 142 = .ok (.ireturn, 1) := by decide +kernel
abbrev cX2_clear : ByteArray := prog_4_method_6_code
def yX2_clear : MethodName := ⟨RX2, "clear", "()V"⟩
theorem dX2_clear_0 : decode cX2_clear 0 = .ok (.aload_n 0, 1) := by decide +kernel
theorem dX2_clear_1 : decode cX2_clear 1 = .ok (.iconst 0, 1) := by decide +kernel
theorem dX2_clear_2 : decode cX2_clear 2 = .ok (.putfield 19, 3) := by decide +kernel
theorem dX2_clear_5 : decode cX2_clear 5 = .ok (.aload_n 0, 1) := by decide +kernel
theorem dX2_clear_6 : decode cX2_clear 6 = .ok (.iconst 0, 1) := by decide +kernel
theorem dX2_clear_7 : decode cX2_clear 7 = .ok (.putfield 23, 3) := by decide +kernel
theorem dX2_clear_10 : decode cX2_clear 10 = .ok (.return_, 1) := by decide +kernel
theorem q3 : (Jvm.Cond.initialized "LeastScriptModel") ∈ lw_all := lw_g (lw_at lw_m0 3 rfl) rfl
theorem q92 : (Jvm.Cond.instantiable "LeastScriptModel" (5 : Nat)) ∈ lw_all := lw_g (lw_at lw_m0 92 rfl) rfl
theorem q94 : (Jvm.Cond.instanceMethod ({ cls := "LeastScriptModel", name := "<init>", desc := "()V" } : Jvm.MethodName)) ∈ lw_all := lw_g (lw_at lw_m0 94 rfl) rfl
theorem q95 : (Jvm.Cond.code ({ cls := "LeastScriptModel", name := "<init>", desc := "()V" } : Jvm.MethodName) prog_4_method_1_code (1 : Nat) (Option.none : Option Jvm.ClassFile.FieldType)) ∈ lw_all := lw_g (lw_at lw_m0 95 rfl) rfl
theorem q96 : (Jvm.Cond.methodLink "LeastScriptModel" (1 : Nat) ({ cls := "java/lang/Object", name := "<init>", desc := "()V" } : Jvm.MethodName)) ∈ lw_all := lw_g (lw_at lw_m0 96 rfl) rfl
theorem q97 : (Jvm.Cond.fieldLink "LeastScriptModel" (7 : Nat) "LeastScriptModel" "a" "[I") ∈ lw_all := lw_g (lw_at lw_m0 97 rfl) rfl
theorem q98 : (Jvm.Cond.fieldLink "LeastScriptModel" (13 : Nat) "LeastScriptModel" "b" "[I") ∈ lw_all := lw_g (lw_at lw_m0 98 rfl) rfl
theorem q99 : (Jvm.Cond.fieldLink "LeastScriptModel" (19 : Nat) "LeastScriptModel" "n" "I") ∈ lw_all := lw_g (lw_at lw_m0 99 rfl) rfl
theorem q100 : (Jvm.Cond.fieldLink "LeastScriptModel" (23 : Nat) "LeastScriptModel" "m" "I") ∈ lw_all := lw_g (lw_at lw_m0 100 rfl) rfl
theorem q101 : (Jvm.Cond.fieldLink "LeastScriptModel" (16 : Nat) "LeastScriptModel" "row" "[I") ∈ lw_all := lw_g (lw_at lw_m0 101 rfl) rfl
theorem q102 : (Jvm.Cond.laysFinal "LeastScriptModel" "LeastScriptModel" "a" "[I") ∈ lw_all := lw_g (lw_at lw_m0 102 rfl) rfl
theorem q103 : (Jvm.Cond.soleField "LeastScriptModel" "a") ∈ lw_all := lw_g (lw_at lw_m0 103 rfl) rfl
theorem q104 : (Jvm.Cond.laysFinal "LeastScriptModel" "LeastScriptModel" "b" "[I") ∈ lw_all := lw_g (lw_at lw_m0 104 rfl) rfl
theorem q105 : (Jvm.Cond.soleField "LeastScriptModel" "b") ∈ lw_all := lw_g (lw_at lw_m0 105 rfl) rfl
theorem q106 : (Jvm.Cond.lays "LeastScriptModel" "LeastScriptModel" "n" "I") ∈ lw_all := lw_g (lw_at lw_m0 106 rfl) rfl
theorem q107 : (Jvm.Cond.soleField "LeastScriptModel" "n") ∈ lw_all := lw_g (lw_at lw_m0 107 rfl) rfl
theorem q108 : (Jvm.Cond.lays "LeastScriptModel" "LeastScriptModel" "m" "I") ∈ lw_all := lw_g (lw_at lw_m0 108 rfl) rfl
theorem q109 : (Jvm.Cond.soleField "LeastScriptModel" "m") ∈ lw_all := lw_g (lw_at lw_m0 109 rfl) rfl
theorem q110 : (Jvm.Cond.laysFinal "LeastScriptModel" "LeastScriptModel" "row" "[I") ∈ lw_all := lw_g (lw_at lw_m0 110 rfl) rfl
theorem q111 : (Jvm.Cond.soleField "LeastScriptModel" "row") ∈ lw_all := lw_g (lw_at lw_m0 111 rfl) rfl
theorem q112 : (Jvm.Cond.superclass "LeastScriptModel" "java/lang/Object") ∈ lw_all := lw_g (lw_at lw_m0 112 rfl) rfl
theorem q114 : (Jvm.Cond.instanceMethod ({ cls := "LeastScriptModel", name := "left", desc := "(I)Z" } : Jvm.MethodName)) ∈ lw_all := lw_g (lw_at lw_m0 114 rfl) rfl
theorem q115 : (Jvm.Cond.selects "LeastScriptModel" ({ cls := "LeastScriptModel", name := "left", desc := "(I)Z" } : Jvm.MethodName) ({ cls := "LeastScriptModel", name := "left", desc := "(I)Z" } : Jvm.MethodName)) ∈ lw_all := lw_g (lw_at lw_m0 115 rfl) rfl
theorem q116 : (Jvm.Cond.code ({ cls := "LeastScriptModel", name := "left", desc := "(I)Z" } : Jvm.MethodName) prog_4_method_2_code (2 : Nat) (Option.some Jvm.ClassFile.FieldType.boolean)) ∈ lw_all := lw_g (lw_at lw_m0 116 rfl) rfl
theorem q118 : (Jvm.Cond.instanceMethod ({ cls := "LeastScriptModel", name := "right", desc := "(I)Z" } : Jvm.MethodName)) ∈ lw_all := lw_g (lw_at lw_m0 118 rfl) rfl
theorem q119 : (Jvm.Cond.selects "LeastScriptModel" ({ cls := "LeastScriptModel", name := "right", desc := "(I)Z" } : Jvm.MethodName) ({ cls := "LeastScriptModel", name := "right", desc := "(I)Z" } : Jvm.MethodName)) ∈ lw_all := lw_g (lw_at lw_m0 119 rfl) rfl
theorem q120 : (Jvm.Cond.code ({ cls := "LeastScriptModel", name := "right", desc := "(I)Z" } : Jvm.MethodName) prog_4_method_3_code (2 : Nat) (Option.some Jvm.ClassFile.FieldType.boolean)) ∈ lw_all := lw_g (lw_at lw_m0 120 rfl) rfl
theorem q122 : (Jvm.Cond.instanceMethod ({ cls := "LeastScriptModel", name := "copy", desc := "(II)I" } : Jvm.MethodName)) ∈ lw_all := lw_g (lw_at lw_m0 122 rfl) rfl
theorem q123 : (Jvm.Cond.selects "LeastScriptModel" ({ cls := "LeastScriptModel", name := "copy", desc := "(II)I" } : Jvm.MethodName) ({ cls := "LeastScriptModel", name := "copy", desc := "(II)I" } : Jvm.MethodName)) ∈ lw_all := lw_g (lw_at lw_m0 123 rfl) rfl
theorem q124 : (Jvm.Cond.code ({ cls := "LeastScriptModel", name := "copy", desc := "(II)I" } : Jvm.MethodName) prog_4_method_4_code (6 : Nat) (Option.some Jvm.ClassFile.FieldType.int)) ∈ lw_all := lw_g (lw_at lw_m0 124 rfl) rfl
theorem q125 : (Jvm.Cond.constant "LeastScriptModel" (26 : Nat) (2147483647 : Int32)) ∈ lw_all := lw_g (lw_at lw_m0 125 rfl) rfl
theorem q127 : (Jvm.Cond.instanceMethod ({ cls := "LeastScriptModel", name := "turn", desc := "()I" } : Jvm.MethodName)) ∈ lw_all := lw_g (lw_at lw_m0 127 rfl) rfl
theorem q128 : (Jvm.Cond.selects "LeastScriptModel" ({ cls := "LeastScriptModel", name := "turn", desc := "()I" } : Jvm.MethodName) ({ cls := "LeastScriptModel", name := "turn", desc := "()I" } : Jvm.MethodName)) ∈ lw_all := lw_g (lw_at lw_m0 128 rfl) rfl
theorem q129 : (Jvm.Cond.code ({ cls := "LeastScriptModel", name := "turn", desc := "()I" } : Jvm.MethodName) prog_4_method_5_code (5 : Nat) (Option.some Jvm.ClassFile.FieldType.int)) ∈ lw_all := lw_g (lw_at lw_m0 129 rfl) rfl
theorem q131 : (Jvm.Cond.instanceMethod ({ cls := "LeastScriptModel", name := "clear", desc := "()V" } : Jvm.MethodName)) ∈ lw_all := lw_g (lw_at lw_m0 131 rfl) rfl
theorem q132 : (Jvm.Cond.selects "LeastScriptModel" ({ cls := "LeastScriptModel", name := "clear", desc := "()V" } : Jvm.MethodName) ({ cls := "LeastScriptModel", name := "clear", desc := "()V" } : Jvm.MethodName)) ∈ lw_all := lw_g (lw_at lw_m0 132 rfl) rfl
theorem q133 : (Jvm.Cond.code ({ cls := "LeastScriptModel", name := "clear", desc := "()V" } : Jvm.MethodName) prog_4_method_6_code (1 : Nat) (Option.none : Option Jvm.ClassFile.FieldType)) ∈ lw_all := lw_g (lw_at lw_m0 133 rfl) rfl
theorem in_X2 : ∀ w ∈ wsX20, w ∈ lw_all := lw_in wsX20 [102, 104, 106, 108, 110] (by decide +kernel) (by decide +kernel)
/-! java/lang/Math -/
def RJ0 : String := "java/lang/Math"
abbrev cJ0_min : ByteArray := prog_5_method_69_code
def yJ0_min : MethodName := ⟨RJ0, "min", "(II)I"⟩
theorem dJ0_min_0 : decode cJ0_min 0 = .ok (.iload_n 0, 1) := by decide +kernel
theorem dJ0_min_1 : decode cJ0_min 1 = .ok (.iload_n 1, 1) := by decide +kernel
theorem dJ0_min_2 : decode cJ0_min 2 = .ok (.if_icmp .gt 7, 3) := by decide +kernel
theorem dJ0_min_5 : decode cJ0_min 5 = .ok (.iload_n 0, 1) := by decide +kernel
theorem dJ0_min_6 : decode cJ0_min 6 = .ok (.goto 4, 3) := by decide +kernel
theorem dJ0_min_9 : decode cJ0_min 9 = .ok (.iload_n 1, 1) := by decide +kernel
theorem dJ0_min_10 : decode cJ0_min 10 = .ok (.ireturn, 1) := by decide +kernel
theorem q4 : (Jvm.Cond.initialized "java/lang/Math") ∈ lw_all := lw_g (lw_at lw_m0 4 rfl) rfl
theorem q83 : (Jvm.Cond.static ({ cls := "java/lang/Math", name := "min", desc := "(II)I" } : Jvm.MethodName)) ∈ lw_all := lw_g (lw_at lw_m0 83 rfl) rfl
theorem q84 : (Jvm.Cond.code ({ cls := "java/lang/Math", name := "min", desc := "(II)I" } : Jvm.MethodName) prog_5_method_69_code (2 : Nat) (Option.some Jvm.ClassFile.FieldType.int)) ∈ lw_all := lw_g (lw_at lw_m0 84 rfl) rfl
/-! java/lang/Object -/
def RJ1 : String := "java/lang/Object"
abbrev cJ1_init : ByteArray := object_method_1_code
def yJ1_init : MethodName := ⟨RJ1, "<init>", "()V"⟩
theorem dJ1_init_0 : decode cJ1_init 0 = .ok (.return_, 1) := by decide +kernel
theorem q11 : (Jvm.Cond.instanceMethod ({ cls := "java/lang/Object", name := "<init>", desc := "()V" } : Jvm.MethodName)) ∈ lw_all := lw_g (lw_at lw_m0 11 rfl) rfl
theorem q12 : (Jvm.Cond.code ({ cls := "java/lang/Object", name := "<init>", desc := "()V" } : Jvm.MethodName) object_method_1_code (1 : Nat) (Option.none : Option Jvm.ClassFile.FieldType)) ∈ lw_all := lw_g (lw_at lw_m0 12 rfl) rfl
theorem q0 : (Jvm.Cond.initialized "LeastScriptLaw") ∈ lw_all := lw_g (lw_at lw_m0 0 rfl) rfl
theorem q5 : (Jvm.Cond.classLink "LeastScriptLaw" (7 : Nat) "LeastScript") ∈ lw_all := lw_g (lw_at lw_m0 5 rfl) rfl
theorem q7 : (Jvm.Cond.methodLink "LeastScriptLaw" (9 : Nat) ({ cls := "LeastScript", name := "<init>", desc := "()V" } : Jvm.MethodName)) ∈ lw_all := lw_g (lw_at lw_m0 7 rfl) rfl
theorem q64 : (Jvm.Cond.methodLink "LeastScriptLaw" (13 : Nat) ({ cls := "LeastScript", name := "left", desc := "(I)Z" } : Jvm.MethodName)) ∈ lw_all := lw_g (lw_at lw_m0 64 rfl) rfl
theorem q73 : (Jvm.Cond.methodLink "LeastScriptLaw" (18 : Nat) ({ cls := "LeastScript", name := "right", desc := "(I)Z" } : Jvm.MethodName)) ∈ lw_all := lw_g (lw_at lw_m0 73 rfl) rfl
theorem q77 : (Jvm.Cond.methodLink "LeastScriptLaw" (22 : Nat) ({ cls := "LeastScript", name := "copy", desc := "(II)I" } : Jvm.MethodName)) ∈ lw_all := lw_g (lw_at lw_m0 77 rfl) rfl
theorem q86 : (Jvm.Cond.methodLink "LeastScriptLaw" (27 : Nat) ({ cls := "LeastScript", name := "turn", desc := "()I" } : Jvm.MethodName)) ∈ lw_all := lw_g (lw_at lw_m0 86 rfl) rfl
theorem q90 : (Jvm.Cond.methodLink "LeastScriptLaw" (32 : Nat) ({ cls := "LeastScript", name := "clear", desc := "()V" } : Jvm.MethodName)) ∈ lw_all := lw_g (lw_at lw_m0 90 rfl) rfl
theorem q91 : (Jvm.Cond.classLink "LeastScriptLaw" (10 : Nat) "LeastScriptModel") ∈ lw_all := lw_g (lw_at lw_m0 91 rfl) rfl
theorem q93 : (Jvm.Cond.methodLink "LeastScriptLaw" (12 : Nat) ({ cls := "LeastScriptModel", name := "<init>", desc := "()V" } : Jvm.MethodName)) ∈ lw_all := lw_g (lw_at lw_m0 93 rfl) rfl
theorem q113 : (Jvm.Cond.methodLink "LeastScriptLaw" (17 : Nat) ({ cls := "LeastScriptModel", name := "left", desc := "(I)Z" } : Jvm.MethodName)) ∈ lw_all := lw_g (lw_at lw_m0 113 rfl) rfl
theorem q117 : (Jvm.Cond.methodLink "LeastScriptLaw" (21 : Nat) ({ cls := "LeastScriptModel", name := "right", desc := "(I)Z" } : Jvm.MethodName)) ∈ lw_all := lw_g (lw_at lw_m0 117 rfl) rfl
theorem q121 : (Jvm.Cond.methodLink "LeastScriptLaw" (26 : Nat) ({ cls := "LeastScriptModel", name := "copy", desc := "(II)I" } : Jvm.MethodName)) ∈ lw_all := lw_g (lw_at lw_m0 121 rfl) rfl
theorem q126 : (Jvm.Cond.methodLink "LeastScriptLaw" (31 : Nat) ({ cls := "LeastScriptModel", name := "turn", desc := "()I" } : Jvm.MethodName)) ∈ lw_all := lw_g (lw_at lw_m0 126 rfl) rfl
theorem q130 : (Jvm.Cond.methodLink "LeastScriptLaw" (35 : Nat) ({ cls := "LeastScriptModel", name := "clear", desc := "()V" } : Jvm.MethodName)) ∈ lw_all := lw_g (lw_at lw_m0 130 rfl) rfl
theorem q33 : (Jvm.Cond.arrayClass Jvm.ClassFile.FieldType.int) ∈ lw_all := lw_g (lw_at lw_m0 33 rfl) rfl
/-! the law's own entry -/
abbrev cL_law : ByteArray := code
theorem dL_law_0 : decode cL_law 0 = .ok (.new 7, 3) := by decide +kernel
theorem dL_law_3 : decode cL_law 3 = .ok (.dup, 1) := by decide +kernel
theorem dL_law_4 : decode cL_law 4 = .ok (.invokespecial 9, 3) := by decide +kernel
theorem dL_law_7 : decode cL_law 7 = .ok (.astore_n 1, 1) := by decide +kernel
theorem dL_law_8 : decode cL_law 8 = .ok (.new 10, 3) := by decide +kernel
theorem dL_law_11 : decode cL_law 11 = .ok (.dup, 1) := by decide +kernel
theorem dL_law_12 : decode cL_law 12 = .ok (.invokespecial 12, 3) := by decide +kernel
theorem dL_law_15 : decode cL_law 15 = .ok (.astore_n 2, 1) := by decide +kernel
theorem dL_law_16 : decode cL_law 16 = .ok (.iconst 0, 1) := by decide +kernel
theorem dL_law_17 : decode cL_law 17 = .ok (.istore_n 3, 1) := by decide +kernel
theorem dL_law_18 : decode cL_law 18 = .ok (.iload_n 3, 1) := by decide +kernel
theorem dL_law_19 : decode cL_law 19 = .ok (.aload_n 0, 1) := by decide +kernel
theorem dL_law_20 : decode cL_law 20 = .ok (.arraylength, 1) := by decide +kernel
theorem dL_law_21 : decode cL_law 21 = .ok (.iconst 3, 1) := by decide +kernel
theorem dL_law_22 : decode cL_law 22 = .ok (.isub, 1) := by decide +kernel
theorem dL_law_23 : decode cL_law 23 = .ok (.if_icmp .gt 154, 3) := by decide +kernel
theorem dL_law_26 : decode cL_law 26 = .ok (.aload_n 0, 1) := by decide +kernel
theorem dL_law_27 : decode cL_law 27 = .ok (.iload_n 3, 1) := by decide +kernel
theorem dL_law_28 : decode cL_law 28 = .ok (.iaload, 1) := by decide +kernel
theorem dL_law_29 : decode cL_law 29 = .ok (.bipush 7, 2) := by decide +kernel
theorem dL_law_31 : decode cL_law 31 = .ok (.iand, 1) := by decide +kernel
theorem dL_law_32 : decode cL_law 32 = .ok (.tableswitch 139 0 4 #[36, 59, 82, 115, 128], 36) := by decide +kernel
theorem dL_law_68 : decode cL_law 68 = .ok (.aload_n 1, 1) := by decide +kernel
theorem dL_law_69 : decode cL_law 69 = .ok (.aload_n 0, 1) := by decide +kernel
theorem dL_law_70 : decode cL_law 70 = .ok (.iload_n 3, 1) := by decide +kernel
theorem dL_law_71 : decode cL_law 71 = .ok (.iconst 1, 1) := by decide +kernel
theorem dL_law_72 : decode cL_law 72 = .ok (.iadd, 1) := by decide +kernel
theorem dL_law_73 : decode cL_law 73 = .ok (.iaload, 1) := by decide +kernel
theorem dL_law_74 : decode cL_law 74 = .ok (.invokevirtual 13, 3) := by decide +kernel
theorem dL_law_77 : decode cL_law 77 = .ok (.aload_n 2, 1) := by decide +kernel
theorem dL_law_78 : decode cL_law 78 = .ok (.aload_n 0, 1) := by decide +kernel
theorem dL_law_79 : decode cL_law 79 = .ok (.iload_n 3, 1) := by decide +kernel
theorem dL_law_80 : decode cL_law 80 = .ok (.iconst 1, 1) := by decide +kernel
theorem dL_law_81 : decode cL_law 81 = .ok (.iadd, 1) := by decide +kernel
theorem dL_law_82 : decode cL_law 82 = .ok (.iaload, 1) := by decide +kernel
theorem dL_law_83 : decode cL_law 83 = .ok (.invokevirtual 17, 3) := by decide +kernel
theorem dL_law_86 : decode cL_law 86 = .ok (.if_icmp .eq 85, 3) := by decide +kernel
theorem dL_law_89 : decode cL_law 89 = .ok (.iconst 0, 1) := by decide +kernel
theorem dL_law_90 : decode cL_law 90 = .ok (.ireturn, 1) := by decide +kernel
theorem dL_law_91 : decode cL_law 91 = .ok (.aload_n 1, 1) := by decide +kernel
theorem dL_law_92 : decode cL_law 92 = .ok (.aload_n 0, 1) := by decide +kernel
theorem dL_law_93 : decode cL_law 93 = .ok (.iload_n 3, 1) := by decide +kernel
theorem dL_law_94 : decode cL_law 94 = .ok (.iconst 1, 1) := by decide +kernel
theorem dL_law_95 : decode cL_law 95 = .ok (.iadd, 1) := by decide +kernel
theorem dL_law_96 : decode cL_law 96 = .ok (.iaload, 1) := by decide +kernel
theorem dL_law_97 : decode cL_law 97 = .ok (.invokevirtual 18, 3) := by decide +kernel
theorem dL_law_100 : decode cL_law 100 = .ok (.aload_n 2, 1) := by decide +kernel
theorem dL_law_101 : decode cL_law 101 = .ok (.aload_n 0, 1) := by decide +kernel
theorem dL_law_102 : decode cL_law 102 = .ok (.iload_n 3, 1) := by decide +kernel
theorem dL_law_103 : decode cL_law 103 = .ok (.iconst 1, 1) := by decide +kernel
theorem dL_law_104 : decode cL_law 104 = .ok (.iadd, 1) := by decide +kernel
theorem dL_law_105 : decode cL_law 105 = .ok (.iaload, 1) := by decide +kernel
theorem dL_law_106 : decode cL_law 106 = .ok (.invokevirtual 21, 3) := by decide +kernel
theorem dL_law_109 : decode cL_law 109 = .ok (.if_icmp .eq 62, 3) := by decide +kernel
theorem dL_law_112 : decode cL_law 112 = .ok (.iconst 0, 1) := by decide +kernel
theorem dL_law_113 : decode cL_law 113 = .ok (.ireturn, 1) := by decide +kernel
theorem dL_law_114 : decode cL_law 114 = .ok (.aload_n 1, 1) := by decide +kernel
theorem dL_law_115 : decode cL_law 115 = .ok (.aload_n 0, 1) := by decide +kernel
theorem dL_law_116 : decode cL_law 116 = .ok (.iload_n 3, 1) := by decide +kernel
theorem dL_law_117 : decode cL_law 117 = .ok (.iconst 1, 1) := by decide +kernel
theorem dL_law_118 : decode cL_law 118 = .ok (.iadd, 1) := by decide +kernel
theorem dL_law_119 : decode cL_law 119 = .ok (.iaload, 1) := by decide +kernel
theorem dL_law_120 : decode cL_law 120 = .ok (.aload_n 0, 1) := by decide +kernel
theorem dL_law_121 : decode cL_law 121 = .ok (.iload_n 3, 1) := by decide +kernel
theorem dL_law_122 : decode cL_law 122 = .ok (.iconst 2, 1) := by decide +kernel
theorem dL_law_123 : decode cL_law 123 = .ok (.iadd, 1) := by decide +kernel
theorem dL_law_124 : decode cL_law 124 = .ok (.iaload, 1) := by decide +kernel
theorem dL_law_125 : decode cL_law 125 = .ok (.invokevirtual 22, 3) := by decide +kernel
theorem dL_law_128 : decode cL_law 128 = .ok (.aload_n 2, 1) := by decide +kernel
theorem dL_law_129 : decode cL_law 129 = .ok (.aload_n 0, 1) := by decide +kernel
theorem dL_law_130 : decode cL_law 130 = .ok (.iload_n 3, 1) := by decide +kernel
theorem dL_law_131 : decode cL_law 131 = .ok (.iconst 1, 1) := by decide +kernel
theorem dL_law_132 : decode cL_law 132 = .ok (.iadd, 1) := by decide +kernel
theorem dL_law_133 : decode cL_law 133 = .ok (.iaload, 1) := by decide +kernel
theorem dL_law_134 : decode cL_law 134 = .ok (.aload_n 0, 1) := by decide +kernel
theorem dL_law_135 : decode cL_law 135 = .ok (.iload_n 3, 1) := by decide +kernel
theorem dL_law_136 : decode cL_law 136 = .ok (.iconst 2, 1) := by decide +kernel
theorem dL_law_137 : decode cL_law 137 = .ok (.iadd, 1) := by decide +kernel
theorem dL_law_138 : decode cL_law 138 = .ok (.iaload, 1) := by decide +kernel
theorem dL_law_139 : decode cL_law 139 = .ok (.invokevirtual 26, 3) := by decide +kernel
theorem dL_law_142 : decode cL_law 142 = .ok (.if_icmp .eq 29, 3) := by decide +kernel
theorem dL_law_145 : decode cL_law 145 = .ok (.iconst 0, 1) := by decide +kernel
theorem dL_law_146 : decode cL_law 146 = .ok (.ireturn, 1) := by decide +kernel
theorem dL_law_147 : decode cL_law 147 = .ok (.aload_n 1, 1) := by decide +kernel
theorem dL_law_148 : decode cL_law 148 = .ok (.invokevirtual 27, 3) := by decide +kernel
theorem dL_law_151 : decode cL_law 151 = .ok (.aload_n 2, 1) := by decide +kernel
theorem dL_law_152 : decode cL_law 152 = .ok (.invokevirtual 31, 3) := by decide +kernel
theorem dL_law_155 : decode cL_law 155 = .ok (.if_icmp .eq 16, 3) := by decide +kernel
theorem dL_law_158 : decode cL_law 158 = .ok (.iconst 0, 1) := by decide +kernel
theorem dL_law_159 : decode cL_law 159 = .ok (.ireturn, 1) := by decide +kernel
theorem dL_law_160 : decode cL_law 160 = .ok (.aload_n 1, 1) := by decide +kernel
theorem dL_law_161 : decode cL_law 161 = .ok (.invokevirtual 32, 3) := by decide +kernel
theorem dL_law_164 : decode cL_law 164 = .ok (.aload_n 2, 1) := by decide +kernel
theorem dL_law_165 : decode cL_law 165 = .ok (.invokevirtual 35, 3) := by decide +kernel
theorem dL_law_168 : decode cL_law 168 = .ok (.goto 3, 3) := by decide +kernel
theorem dL_law_171 : decode cL_law 171 = .ok (.iinc 3 3, 3) := by decide +kernel
theorem dL_law_174 : decode cL_law 174 = .ok (.goto (-156), 3) := by decide +kernel
theorem dL_law_177 : decode cL_law 177 = .ok (.iconst 1, 1) := by decide +kernel
theorem dL_law_178 : decode cL_law 178 = .ok (.ireturn, 1) := by decide +kernel
end
section
/-! ===== the longest common row of lines: pure rows, no program in sight ===== -/
/-- the next row of the table of lengths -/
def lc_row (x : Int32) (b : Nat → Int32) (F : Nat → Nat) : Nat → Nat
  | 0 => 0
  | q + 1 => if x = b q then F q + 1 else max (F (q + 1)) (lc_row x b F q)
/-- how long the longest common row is: of i lines of a and q lines of b -/
def lc_F (a b : Nat → Int32) : Nat → Nat → Nat
  | 0 => fun _ => 0
  | i + 1 => lc_row (a i) b (lc_F a b i)
def lc_ok (F : Nat → Nat) : Prop := F 0 = 0 ∧ ∀ q, F q ≤ F (q + 1) ∧ F (q + 1) ≤ F q + 1
theorem lc_row_s (x : Int32) (b : Nat → Int32) (F : Nat → Nat) (q : Nat) : lc_row x b F (q + 1) = if x = b q then F q + 1 else max (F (q + 1)) (lc_row x b F q) := rfl
theorem lc_row_bd {x : Int32} {b : Nat → Int32} {F : Nat → Nat} (h : lc_ok F) (q : Nat) : F q ≤ lc_row x b F q ∧ lc_row x b F q ≤ F q + 1 := by
  induction q with
  | zero =>
    have h0 := h.1
    show F 0 ≤ 0 ∧ 0 ≤ F 0 + 1
    omega
  | succ q ih =>
    have hq := h.2 q
    rw [lc_row_s]
    split <;> omega
theorem lc_row_ok {x : Int32} {b : Nat → Int32} {F : Nat → Nat} (h : lc_ok F) : lc_ok (lc_row x b F) := by
  refine ⟨rfl, fun q => ?_⟩
  have b1 := lc_row_bd (x := x) (b := b) h q
  have hq := h.2 q
  rw [lc_row_s]
  split <;> omega
theorem lc_F_ok (a b : Nat → Int32) : ∀ i, lc_ok (lc_F a b i)
  | 0 => ⟨rfl, fun q => ⟨Nat.le_refl _, Nat.zero_le _⟩⟩
  | i + 1 => lc_row_ok (lc_F_ok a b i)
theorem lc_le {F : Nat → Nat} (h : lc_ok F) (q : Nat) : F q ≤ q := by
  induction q with
  | zero => rw [h.1]; exact Nat.le_refl _
  | succ q ih =>
    have hq := h.2 q
    omega
theorem lc_mono {F : Nat → Nat} (h : ∀ q, F q ≤ F (q + 1)) {p q : Nat} (hpq : p ≤ q) : F p ≤ F q := by
  induction q with
  | zero => rw [show p = 0 by omega]; exact Nat.le_refl _
  | succ q ih =>
    rcases Nat.lt_or_ge q p with hc | hc
    · rw [show p = q + 1 by omega]; exact Nat.le_refl _
    · exact Nat.le_trans (ih hc) (h q)
/-- the row with the matches from p on taken in alone -/
def lc_K (x : Int32) (b : Nat → Int32) (F : Nat → Nat) (p : Nat) : Nat → Nat
  | 0 => 0
  | q + 1 => if p ≤ q ∧ x = b q then F q + 1 else max (F (q + 1)) (lc_K x b F p q)
theorem lc_K_s (x : Int32) (b : Nat → Int32) (F : Nat → Nat) (p q : Nat) : lc_K x b F p (q + 1) = if p ≤ q ∧ x = b q then F q + 1 else max (F (q + 1)) (lc_K x b F p q) := rfl
theorem lc_K_bd {x : Int32} {b : Nat → Int32} {F : Nat → Nat} {p : Nat} (h : lc_ok F) (q : Nat) : F q ≤ lc_K x b F p q ∧ lc_K x b F p q ≤ F q + 1 := by
  induction q with
  | zero =>
    have h0 := h.1
    show F 0 ≤ 0 ∧ 0 ≤ F 0 + 1
    omega
  | succ q ih =>
    have hq := h.2 q
    rw [lc_K_s]
    split <;> omega
theorem lc_K_mono {x : Int32} {b : Nat → Int32} {F : Nat → Nat} {p : Nat} (h : lc_ok F) (q : Nat) : lc_K x b F p q ≤ lc_K x b F p (q + 1) := by
  have b1 := lc_K_bd (x := x) (b := b) (p := p) h q
  rw [lc_K_s]
  split <;> omega
theorem lc_K_ok {x : Int32} {b : Nat → Int32} {F : Nat → Nat} {p : Nat} (h : lc_ok F) : lc_ok (lc_K x b F p) := by
  refine ⟨rfl, fun q => ⟨lc_K_mono h q, ?_⟩⟩
  have b1 := lc_K_bd (x := x) (b := b) (p := p) h q
  have hq := h.2 q
  rw [lc_K_s]
  split <;> omega
theorem lc_K_low {x : Int32} {b : Nat → Int32} {F : Nat → Nat} {p : Nat} (h : lc_ok F) {q : Nat} (hq : q ≤ p) : lc_K x b F p q = F q := by
  induction q with
  | zero => exact h.1.symm
  | succ q ih =>
    have i1 := ih (by omega)
    have i2 := h.2 q
    rw [lc_K_s, if_neg (fun e => absurd e.1 (by omega)), i1]
    omega
theorem lc_K_0 {x : Int32} {b : Nat → Int32} {F : Nat → Nat} (q : Nat) : lc_K x b F 0 q = lc_row x b F q := by
  induction q with
  | zero => rfl
  | succ q ih =>
    rw [lc_K_s, lc_row_s, ih]
    by_cases hx : x = b q
    · rw [if_pos ⟨Nat.zero_le _, hx⟩, if_pos hx]
    · rw [if_neg (fun e => hx e.2), if_neg hx]
theorem lc_K_skip {x : Int32} {b : Nat → Int32} {F : Nat → Nat} {p1 p2 : Nat} (hp : p1 ≤ p2) (h : ∀ j, p1 ≤ j → j < p2 → ¬ x = b j) (q : Nat) : lc_K x b F p1 q = lc_K x b F p2 q := by
  induction q with
  | zero => rfl
  | succ q ih =>
    rw [lc_K_s, lc_K_s, ih]
    by_cases hx : x = b q
    · by_cases h2 : p2 ≤ q
      · rw [if_pos ⟨by omega, hx⟩, if_pos ⟨h2, hx⟩]
      · by_cases h1 : p1 ≤ q
        · exact absurd hx (h q h1 (by omega))
        · rw [if_neg (fun e => h1 e.1), if_neg (fun e => h2 e.1)]
    · rw [if_neg (fun e => hx e.2), if_neg (fun e => hx e.2)]
theorem lc_K_hit {x : Int32} {b : Nat → Int32} {F : Nat → Nat} {j : Nat} (h : lc_ok F) (hj : x = b j) (q : Nat) : lc_K x b F j q = if q ≤ j then F q else max (lc_K x b F (j + 1) q) (F j + 1) := by
  induction q with
  | zero =>
    rw [if_pos (Nat.zero_le _)]
    exact h.1.symm
  | succ q ih =>
    rcases Nat.lt_trichotomy q j with hc | hc | hc
    · rw [if_pos (by omega)]
      exact lc_K_low h (by omega)
    · subst hc
      have e1 := lc_K_low (x := x) (b := b) (p := q + 1) h (Nat.le_refl (q + 1))
      have i2 := h.2 q
      rw [if_neg (by omega), lc_K_s, if_pos ⟨Nat.le_refl _, hj⟩, e1]
      omega
    · have i2 := lc_mono (fun q => (h.2 q).1) (show j ≤ q by omega)
      rw [if_neg (by omega)] at ih
      rw [if_neg (by omega), lc_K_s, lc_K_s]
      by_cases hx : x = b q
      · rw [if_pos ⟨by omega, hx⟩, if_pos ⟨by omega, hx⟩]
        omega
      · rw [if_neg (fun e => hx e.2), if_neg (fun e => hx e.2), ih]
        omega
/-- where w stands last among the first p of b, or -1 -/
def lc_last (b : Nat → Int32) (w : Int32) : Nat → Int32
  | 0 => -1
  | p + 1 => if w = b p then nI p else lc_last b w p
theorem lc_last_s (b : Nat → Int32) (w : Int32) (p : Nat) : lc_last b w (p + 1) = if w = b p then nI p else lc_last b w p := rfl
theorem lc_last_c (b : Nat → Int32) (w : Int32) (p : Nat) : (lc_last b w p = -1 ∧ ∀ j, j < p → ¬ w = b j) ∨ ∃ j, j < p ∧ lc_last b w p = nI j ∧ w = b j ∧ ∀ k, j < k → k < p → ¬ w = b k := by
  induction p with
  | zero => exact Or.inl ⟨rfl, fun j hj => absurd hj (Nat.not_lt_zero j)⟩
  | succ p ih =>
    by_cases hx : w = b p
    · exact Or.inr ⟨p, by omega, by rw [lc_last_s, if_pos hx], hx, fun k h1 h2 => absurd h2 (by omega)⟩
    · rcases ih with ⟨e1, e2⟩ | ⟨j, h1, h2, h3, h4⟩
      · refine Or.inl ⟨by rw [lc_last_s, if_neg hx, e1], fun j hj => ?_⟩
        rcases Nat.lt_or_ge j p with hc | hc
        · exact e2 j hc
        · rw [show j = p by omega]; exact hx
      · refine Or.inr ⟨j, by omega, by rw [lc_last_s, if_neg hx, h2], h3, fun k k1 k2 => ?_⟩
        rcases Nat.lt_or_ge k p with hc | hc
        · exact h4 k k1 hc
        · rw [show k = p by omega]; exact hx
theorem lc_last_cong {b b2 : Nat → Int32} {w : Int32} {p : Nat} (h : ∀ j, j < p → b j = b2 j) : lc_last b w p = lc_last b2 w p := by
  induction p with
  | zero => rfl
  | succ p ih => rw [lc_last_s, lc_last_s, ih (fun j hj => h j (by omega)), h p (by omega)]
theorem lc_last_no {b : Nat → Int32} {w : Int32} {p : Nat} (h : ∀ j, j < p → ¬ w = b j) : lc_last b w p = -1 := by
  induction p with
  | zero => rfl
  | succ p ih => rw [lc_last_s, if_neg (h p (by omega)), ih (fun j hj => h j (by omega))]
/-- en keeps for each length below lg where a common row of that length (and one) ends at least: M q counts the ends below q -/
def lc_E (M : Nat → Nat) (R : Nat) (en : Nat → Int32) (lg : Nat) : Prop := lg = M R ∧ ∀ k, k < lg → ∃ v, v < R ∧ en k = nI v ∧ ∀ q, q ≤ R → (v < q ↔ k < M q)
def lc_ins (M : Nat → Nat) (j : Nat) : Nat → Nat := fun q => if q ≤ j then M q else max (M q) (M j + 1)
theorem lc_E_cong {M M2 : Nat → Nat} {R : Nat} {en : Nat → Int32} {lg : Nat} (hc : ∀ q, q ≤ R → M q = M2 q) (h : lc_E M R en lg) : lc_E M2 R en lg := by
  refine ⟨by rw [h.1]; exact hc R (Nat.le_refl _), fun k hk => ?_⟩
  obtain ⟨v, h1, h2, h3⟩ := h.2 k hk
  exact ⟨v, h1, h2, fun q hq => by rw [← hc q hq]; exact h3 q hq⟩
theorem lc_E_step {M : Nat → Nat} {R : Nat} {en : Nat → Int32} {lg j : Nat} (hM : ∀ q, M q ≤ M (q + 1)) (h : lc_E M R en lg) (hj : j < R) : lc_E (lc_ins M j) R (upd en (M j) (nI j)) (if M j = lg then lg + 1 else lg) := by
  obtain ⟨h1, h2⟩ := h
  have hjR := lc_mono hM (Nat.le_of_lt hj)
  refine ⟨?_, fun k hk => ?_⟩
  · show _ = if R ≤ j then M R else max (M R) (M j + 1)
    rw [if_neg (show ¬ R ≤ j by omega)]
    split <;> omega
  · by_cases hkj : k = M j
    · subst hkj
      refine ⟨j, hj, pk_us, fun q hq => ?_⟩
      show _ ↔ M j < if q ≤ j then M q else max (M q) (M j + 1)
      by_cases hq2 : q ≤ j
      · have := lc_mono hM hq2
        rw [if_pos hq2]
        omega
      · rw [if_neg hq2]
        omega
    · have hk2 : k < lg := by
        split at hk <;> omega
      obtain ⟨v, v1, v2, v3⟩ := h2 k hk2
      refine ⟨v, v1, by rw [pk_un hkj]; exact v2, fun q hq => ?_⟩
      show _ ↔ k < if q ≤ j then M q else max (M q) (M j + 1)
      rw [v3 q hq]
      by_cases hq2 : q ≤ j
      · rw [if_pos hq2]
      · have := lc_mono hM (show j ≤ q by omega)
        rw [if_neg hq2]
        omega
/-- one match taken in: where it goes, what the search asks, what comes of it -/
theorem lc_step {x : Int32} {b : Nat → Int32} {F : Nat → Nat} {p R j lg : Nat} {en : Nat → Int32} (hF : lc_ok F) (h : lc_E (lc_K x b F p) R en lg) (hj : j < p) (hp : p ≤ R) (hx : x = b j) (hno : ∀ k, j < k → k < p → ¬ x = b k) : lc_E (lc_K x b F j) R (upd en (F j) (nI j)) (if F j = lg then lg + 1 else lg) ∧ F j ≤ lg ∧ F j ≤ j ∧ lg ≤ R ∧ ∀ k, k < lg → ∃ v, v < R ∧ en k = nI v ∧ (v < j ↔ k < F j) := by
  have e1 : ∀ q, lc_K x b F (j + 1) q = lc_K x b F p q := lc_K_skip (by omega) (fun k k1 k2 => hno k (by omega) k2)
  have e2 : lc_K x b F p j = F j := lc_K_low hF (Nat.le_of_lt hj)
  have hM : ∀ q, lc_K x b F p q ≤ lc_K x b F p (q + 1) := lc_K_mono hF
  have st := lc_E_step hM h (show j < R by omega)
  rw [e2] at st
  refine ⟨lc_E_cong (fun q _ => ?_) st, ?_, lc_le hF j, by rw [h.1]; exact lc_le (lc_K_ok hF) R, fun k hk => ?_⟩
  · show (if q ≤ j then lc_K x b F p q else max (lc_K x b F p q) (lc_K x b F p j + 1)) = _
    rw [lc_K_hit hF hx q, e1, e2]
    by_cases hq : q ≤ j
    · rw [if_pos hq, if_pos hq]
      exact lc_K_low hF (by omega)
    · rw [if_neg hq, if_neg hq]
  · rw [h.1, ← e2]
    exact lc_mono hM (by omega)
  · obtain ⟨v, v1, v2, v3⟩ := h.2 k hk
    exact ⟨v, v1, v2, by rw [v3 j (by omega), e2]⟩
theorem lc_begin {x : Int32} {b : Nat → Int32} {F : Nat → Nat} {R lg : Nat} {en : Nat → Int32} (hF : lc_ok F) (h : lc_E F R en lg) : lc_E (lc_K x b F R) R en lg := lc_E_cong (fun _ hq => (lc_K_low hF hq).symm) h
theorem lc_end {x : Int32} {b : Nat → Int32} {F : Nat → Nat} {p R lg : Nat} {en : Nat → Int32} (h : lc_E (lc_K x b F p) R en lg) (hno : ∀ k, k < p → ¬ x = b k) : lc_E (lc_row x b F) R en lg := lc_E_cong (fun q _ => by rw [← lc_K_skip (Nat.zero_le p) (fun k _ hk => hno k hk) q]; exact lc_K_0 q) h
theorem lc_E_0 {a b en : Nat → Int32} {R : Nat} : lc_E (lc_F a b 0) R en 0 := ⟨rfl, fun k hk => absurd hk (Nat.not_lt_zero k)⟩
/-! ===== drawers (of kit/laws/COUNTS.to-paste) ===== -/
theorem fb_holes : ∀ (m n : Nat) (f : Nat → Nat), (∀ i, i < n → f i < m) → (∀ i j, i < j → j < n → f i ≠ f j) → n ≤ m := by
  intro m
  induction m with
  | zero =>
    intro n f h1 _
    rcases Nat.eq_zero_or_pos n with h | h
    · omega
    · exact absurd (h1 0 h) (Nat.not_lt_zero _)
  | succ m ih =>
    intro n f h1 h2
    by_cases hx : ∃ i, i < n ∧ f i = m
    · obtain ⟨a, ha, hfa⟩ := hx
      have hg := ih (n - 1) (fun i => if i < a then f i else f (i + 1)) (by
        intro i hi
        by_cases q : i < a
        · simp only [if_pos q]
          have b1 := h1 i (by omega)
          have b2 := h2 i a q ha
          omega
        · simp only [if_neg q]
          have b1 := h1 (i + 1) (by omega)
          have b2 := h2 a (i + 1) (by omega) (by omega)
          omega) (by
        intro i j hij hj
        by_cases q : i < a
        · by_cases r : j < a
          · simp only [if_pos q, if_pos r]
            exact h2 i j hij (by omega)
          · simp only [if_pos q, if_neg r]
            exact h2 i (j + 1) (by omega) (by omega)
        · have r : ¬ j < a := by omega
          simp only [if_neg q, if_neg r]
          exact h2 (i + 1) (j + 1) (by omega) (by omega))
      omega
    · have hg := ih n f (fun i hi => by
        have b1 := h1 i hi
        have b2 : f i ≠ m := fun e => hx ⟨i, hi, e⟩
        omega) h2
      omega
end
section
/-! ===== the table of numbers, and what the class keeps: pure rows ===== -/
theorem nb_m1 {k : Nat} (h : k < 2 ^ 31) : ¬ nI k = -1 := fun e => nI_pos h (by rw [e]; decide)
/-- where a line's slot is looked for first -/
def nb_h (w : Int32) : Nat := ((w ^^^ (w.toUInt32 >>> ((15 : Int32).toUInt32 &&& Int32.toUInt32 31)).toInt32) * (-1640531535)).toBitVec.toNat / 2 ^ 22
theorem nb_h_lt (w : Int32) : nb_h w < 1024 := by
  unfold nb_h
  have := ((w ^^^ (w.toUInt32 >>> ((15 : Int32).toUInt32 &&& Int32.toUInt32 31)).toInt32) * (-1640531535)).toBitVec.isLt
  omega
theorem nb_h_eq (w : Int32) : (((w ^^^ (w.toUInt32 >>> ((15 : Int32).toUInt32 &&& Int32.toUInt32 31)).toInt32) * (-1640531535)).toUInt32 >>> ((22 : Int32).toUInt32 &&& Int32.toUInt32 31)).toInt32 = nI (nb_h w) := by
  apply Int32.toBitVec_inj.mp
  apply BitVec.eq_of_toNat_eq
  rw [pk_ushr _ _ 22 (by decide), pk_tn (Nat.lt_trans (nb_h_lt w) (by decide))]
  rfl
/-- the table: mn lines li, each in one of 1024 slots, found by going on from its first one -/
def nb_I (li sl : Nat → Int32) (mn : Nat) : Prop := mn ≤ 256 ∧ (∀ i j, i < mn → j < mn → li i = li j → i = j) ∧ (∀ s, s < 1024 → sl s = -1 ∨ ∃ k, k < mn ∧ sl s = nI k) ∧ (∀ s t k, s < 1024 → t < 1024 → k < mn → sl s = nI k → sl t = nI k → s = t) ∧ (∀ k, k < mn → ∃ u, u < 1024 ∧ sl ((nb_h (li k) + u) % 1024) = nI k ∧ ∀ v, v < u → ¬ sl ((nb_h (li k) + v) % 1024) = -1)
theorem nb_I_0 {li sl : Nat → Int32} (h : ∀ s, s < 1024 → sl s = -1) : nb_I li sl 0 :=
  ⟨Nat.zero_le _, fun i j hi => absurd hi (Nat.not_lt_zero i), fun s hs => Or.inl (h s hs), fun s t k _ _ hk => absurd hk (Nat.not_lt_zero k), fun k hk => absurd hk (Nat.not_lt_zero k)⟩
theorem nb_free {li sl : Nat → Int32} {mn : Nat} (h : nb_I li sl mn) (x : Nat) : ∃ u, u < 1024 ∧ sl ((x + u) % 1024) = -1 := by
  obtain ⟨h1, h2, h3, h4, h5⟩ := h
  have hs : ∃ s, s < 1024 ∧ sl s = -1 := by
    refine Classical.byContradiction fun hx => ?_
    have hk : ∀ s, s < 1024 → ∃ k, k < mn ∧ sl s = nI k := fun s hs => by
      rcases h3 s hs with e | e
      · exact absurd ⟨s, hs, e⟩ hx
      · exact e
    have hc := fb_holes mn 1024 (fun s => (sl s).toNatClampNeg) (fun s hs => by
      obtain ⟨k, k1, k2⟩ := hk s hs
      show (sl s).toNatClampNeg < mn
      rw [k2, nI_clamp (by omega)]
      exact k1) (fun s t hst ht e => by
      obtain ⟨k, k1, k2⟩ := hk s (by omega)
      obtain ⟨j, j1, j2⟩ := hk t ht
      have e : (sl s).toNatClampNeg = (sl t).toNatClampNeg := e
      rw [k2, j2, nI_clamp (by omega), nI_clamp (by omega)] at e
      subst e
      have := h4 s t k (by omega) ht k1 k2 j2
      omega)
    omega
  obtain ⟨s, hs, e⟩ := hs
  refine ⟨(s + 1024 - x % 1024) % 1024, Nat.mod_lt _ (by decide), ?_⟩
  rw [show (x + (s + 1024 - x % 1024) % 1024) % 1024 = s by omega]
  exact e
/-- a line that isn't there yet, and the table with it -/
theorem nb_new {li sl : Nat → Int32} {mn u : Nat} {w : Int32} (h : nb_I li sl mn) (hmn : mn < 256) (hu : u < 1024) (hb : ∀ v, v < u → ∃ k, k < mn ∧ sl ((nb_h w + v) % 1024) = nI k ∧ ¬ li k = w) (he : sl ((nb_h w + u) % 1024) = -1) : (∀ k, k < mn → ¬ li k = w) ∧ nb_I (upd li mn w) (upd sl ((nb_h w + u) % 1024) (nI mn)) (mn + 1) := by
  obtain ⟨h1, h2, h3, h4, h5⟩ := h
  have hA : ∀ k, k < mn → ¬ li k = w := by
    intro k hk e
    obtain ⟨u2, u21, u22, u23⟩ := h5 k hk
    rw [e] at u22 u23
    rcases Nat.lt_trichotomy u2 u with hc | hc | hc
    · obtain ⟨k2, k21, k22, k23⟩ := hb u2 hc
      rw [u22] at k22
      have := (nI_eq (by omega) (by omega)).mp k22
      subst this
      exact k23 e
    · subst hc
      rw [he] at u22
      exact nb_m1 (by omega) u22.symm
    · exact u23 u hc he
  refine ⟨hA, by omega, ?_, ?_, ?_, ?_⟩
  · intro i j hi hj e
    by_cases ei : i = mn
    · by_cases ej : j = mn
      · omega
      · rw [ei, pk_us, pk_un ej] at e
        exact absurd e.symm (hA j (by omega))
    · by_cases ej : j = mn
      · rw [ej, pk_us, pk_un ei] at e
        exact absurd e (hA i (by omega))
      · rw [pk_un ei, pk_un ej] at e
        exact h2 i j (by omega) (by omega) e
  · intro s hs
    by_cases es : s = (nb_h w + u) % 1024
    · exact Or.inr ⟨mn, by omega, by rw [es]; exact pk_us⟩
    · rw [pk_un es]
      rcases h3 s hs with e | ⟨k, k1, k2⟩
      · exact Or.inl e
      · exact Or.inr ⟨k, by omega, k2⟩
  · intro s t k hs ht hk e1 e2
    by_cases es : s = (nb_h w + u) % 1024
    · by_cases et : t = (nb_h w + u) % 1024
      · omega
      · rw [es, pk_us] at e1
        rw [pk_un et] at e2
        have hkm := (nI_eq (by omega) (by omega)).mp e1
        rcases h3 t ht with q | ⟨k2, k21, k22⟩
        · rw [q] at e2
          exact absurd e2.symm (nb_m1 (by omega))
        · rw [k22] at e2
          have := (nI_eq (by omega) (by omega)).mp e2
          omega
    · rw [pk_un es] at e1
      by_cases et : t = (nb_h w + u) % 1024
      · rw [et, pk_us] at e2
        have hkm := (nI_eq (by omega) (by omega)).mp e2
        rcases h3 s hs with q | ⟨k2, k21, k22⟩
        · rw [q] at e1
          exact absurd e1.symm (nb_m1 (by omega))
        · rw [k22] at e1
          have := (nI_eq (by omega) (by omega)).mp e1
          omega
      · rw [pk_un et] at e2
        rcases h3 s hs with q | ⟨k2, k21, k22⟩
        · rw [q] at e1
          exact absurd e1.symm (nb_m1 (by omega))
        · have e3 := e1
          rw [k22] at e3
          have := (nI_eq (by omega) (by omega)).mp e3
          exact h4 s t k hs ht (by omega) e1 e2
  · intro k hk
    by_cases ek : k = mn
    · subst ek
      rw [pk_us]
      refine ⟨u, hu, pk_us, fun v hv => ?_⟩
      by_cases ev : (nb_h w + v) % 1024 = (nb_h w + u) % 1024
      · rw [ev, pk_us]
        exact nb_m1 (by omega)
      · rw [pk_un ev]
        obtain ⟨k2, k21, k22, k23⟩ := hb v hv
        rw [k22]
        exact nb_m1 (by omega)
    · rw [pk_un ek]
      obtain ⟨u2, u21, u22, u23⟩ := h5 k (by omega)
      refine ⟨u2, u21, ?_, fun v hv => ?_⟩
      · by_cases ev : (nb_h (li k) + u2) % 1024 = (nb_h w + u) % 1024
        · rw [ev, he] at u22
          exact absurd u22.symm (nb_m1 (by omega))
        · rw [pk_un ev]
          exact u22
      · by_cases ev : (nb_h (li k) + v) % 1024 = (nb_h w + u) % 1024
        · rw [ev, pk_us]
          exact nb_m1 (by omega)
        · rw [pk_un ev]
          exact u23 v hv
/-- what 'of' answers and leaves -/
def nb_R (li : Nat → Int32) (mn : Nat) (w : Int32) (k : Nat) (li2 sl2 : Nat → Int32) (mn2 : Nat) : Prop := nb_I li2 sl2 mn2 ∧ ((k < mn ∧ li k = w ∧ li2 = li ∧ mn2 = mn) ∨ (k = mn ∧ (∀ j, j < mn → ¬ li j = w) ∧ li2 = upd li mn w ∧ mn2 = mn + 1))
/-- what the class keeps of n left lines a and m right lines b -/
def ls_I (a : Nat → Int32) (n : Nat) (b : Nat → Int32) (m : Nat) (li sl : Nat → Int32) (mn : Nat) (le ll la be : Nat → Int32) : Prop :=
  n ≤ 128 ∧ m ≤ 128 ∧ mn ≤ n + m ∧ nb_I li sl mn ∧ (∀ i, i < n → ll i = a i) ∧ (∀ i, i < n → ∃ k, k < mn ∧ le i = nI k ∧ li k = a i) ∧ (∀ k, k < 256 → la k = if k < mn then lc_last b (li k) m else -1) ∧ (∀ j, j < m → be j = lc_last b (b j) j) ∧ (∀ j, j < m → ∃ k, k < mn ∧ li k = b j)
theorem ls_I_0 {a b li sl le ll la be : Nat → Int32} (h1 : ∀ s, s < 1024 → sl s = -1) (h2 : ∀ k, k < 256 → la k = -1) : ls_I a 0 b 0 li sl 0 le ll la be :=
  ⟨Nat.zero_le _, Nat.zero_le _, Nat.zero_le _, nb_I_0 h1, fun i hi => absurd hi (Nat.not_lt_zero i), fun i hi => absurd hi (Nat.not_lt_zero i), fun k hk => by rw [if_neg (Nat.not_lt_zero k)]; exact h2 k hk, fun i hi => absurd hi (Nat.not_lt_zero i), fun i hi => absurd hi (Nat.not_lt_zero i)⟩
theorem ls_I_left {a b li sl le ll la be li2 sl2 : Nat → Int32} {n m mn mn2 k : Nat} {w : Int32} (h : ls_I a n b m li sl mn le ll la be) (hn : n < 128) (hR : nb_R li mn w k li2 sl2 mn2) : ls_I (upd a n w) (n + 1) b m li2 sl2 mn2 (upd le n (nI k)) (upd ll n w) la be := by
  obtain ⟨h1, h2, h3, h4, h5, h6, h7, h8, h9⟩ := h
  obtain ⟨hI, hR⟩ := hR
  have hll : ∀ i, i < n + 1 → upd ll n w i = upd a n w i := fun i hi => by
    by_cases e : i = n
    · rw [e, pk_us, pk_us]
    · rw [pk_un e, pk_un e]
      exact h5 i (by omega)
  rcases hR with ⟨r1, r2, rfl, rfl⟩ | ⟨rfl, r2, rfl, rfl⟩
  · refine ⟨by omega, h2, by omega, hI, hll, fun i hi => ?_, h7, h8, h9⟩
    by_cases e : i = n
    · rw [e, pk_us, pk_us]
      exact ⟨k, r1, rfl, r2⟩
    · rw [pk_un e, pk_un e]
      exact h6 i (by omega)
  · refine ⟨by omega, h2, by omega, hI, hll, fun i hi => ?_, fun j hj => ?_, h8, fun j hj => ?_⟩
    · by_cases e : i = n
      · rw [e, pk_us, pk_us]
        exact ⟨k, by omega, rfl, pk_us⟩
      · rw [pk_un e, pk_un e]
        obtain ⟨q, q1, q2, q3⟩ := h6 i (by omega)
        exact ⟨q, by omega, q2, by rw [pk_un (by omega)]; exact q3⟩
    · by_cases e : j = k
      · subst e
        rw [if_pos (by omega), pk_us, h7 j hj, if_neg (by omega), lc_last_no (fun q hq => ?_)]
        obtain ⟨z, z1, z2⟩ := h9 q hq
        rw [← z2]
        exact fun e => r2 z z1 e.symm
      · rw [h7 j hj]
        by_cases q : j < k
        · rw [if_pos q, if_pos (by omega), pk_un e]
        · rw [if_neg q, if_neg (by omega)]
    · obtain ⟨z, z1, z2⟩ := h9 j hj
      exact ⟨z, by omega, by rw [pk_un (by omega)]; exact z2⟩
theorem ls_I_right {a b li sl le ll la be li2 sl2 : Nat → Int32} {n m mn mn2 k : Nat} {w : Int32} (h : ls_I a n b m li sl mn le ll la be) (hm : m < 128) (hR : nb_R li mn w k li2 sl2 mn2) : ls_I a n (upd b m w) (m + 1) li2 sl2 mn2 le ll (upd la k (nI m)) (upd be m (la k)) := by
  obtain ⟨h1, h2, h3, h4, h5, h6, h7, h8, h9⟩ := h
  obtain ⟨hI, hR⟩ := hR
  have hbb : ∀ p, p ≤ m → ∀ j, j < p → b j = upd b m w j := fun p hp j hj => (pk_un (by omega)).symm
  have hcg : ∀ x p, p ≤ m → lc_last (upd b m w) x p = lc_last b x p := fun x p hp => (lc_last_cong (hbb p hp)).symm
  have hbe : ∀ z, z = lc_last b w m → ∀ j, j < m + 1 → upd be m z j = lc_last (upd b m w) (upd b m w j) j := fun z hz j hj => by
    by_cases e : j = m
    · rw [e, pk_us, pk_us, hcg _ _ (Nat.le_refl _)]
      exact hz
    · rw [pk_un e, pk_un e, hcg _ _ (by omega)]
      exact h8 j (by omega)
  rcases hR with ⟨r1, r2, rfl, rfl⟩ | ⟨rfl, r2, rfl, rfl⟩
  · have hI2 := hI.2.1
    refine ⟨h1, by omega, by omega, hI, h5, h6, fun j hj => ?_, hbe _ ?_, fun j hj => ?_⟩
    · by_cases e : j = k
      · rw [e, pk_us, if_pos r1, lc_last_s, pk_us, if_pos r2]
      · rw [pk_un e, h7 j hj]
        by_cases q : j < mn2
        · rw [if_pos q, if_pos q, lc_last_s, pk_us, if_neg (fun e2 => e (hI2 j k q r1 (by rw [e2, r2]))), hcg _ _ (Nat.le_refl _)]
        · rw [if_neg q, if_neg q]
    · rw [h7 k (by omega), if_pos r1, r2]
    · by_cases e : j = m
      · rw [e, pk_us]
        exact ⟨k, r1, r2⟩
      · rw [pk_un e]
        exact h9 j (by omega)
  · have hno : lc_last b w m = -1 := lc_last_no (fun q hq => by
      obtain ⟨z, z1, z2⟩ := h9 q hq
      rw [← z2]
      exact fun e => r2 z z1 e.symm)
    refine ⟨h1, by omega, by omega, hI, h5, fun i hi => ?_, fun j hj => ?_, hbe _ ?_, fun j hj => ?_⟩
    · obtain ⟨q, q1, q2, q3⟩ := h6 i hi
      exact ⟨q, by omega, q2, by rw [pk_un (by omega)]; exact q3⟩
    · by_cases e : j = k
      · rw [e, pk_us, if_pos (by omega), pk_us, lc_last_s, pk_us, if_pos rfl]
      · rw [pk_un e, h7 j hj]
        by_cases q : j < k
        · rw [if_pos q, if_pos (by omega), pk_un e, lc_last_s, pk_us, if_neg (r2 j q), hcg _ _ (Nat.le_refl _)]
        · rw [if_neg q, if_neg (by omega)]
    · rw [h7 k (by omega), if_neg (by omega), hno]
    · by_cases e : j = m
      · rw [e, pk_us]
        exact ⟨k, by omega, pk_us⟩
      · rw [pk_un e]
        obtain ⟨z, z1, z2⟩ := h9 j (by omega)
        exact ⟨z, by omega, by rw [pk_un (by omega)]; exact z2⟩
/-- the right text behind k copied lines -/
def cp_B (a b : Nat → Int32) (f m : Nat) : Nat → Nat → Int32
  | 0 => b
  | k + 1 => upd (cp_B a b f m k) (m + k) (a (f + k))
/-- how many lines 'copy' copies -/
def cp_K (n m f c : Nat) : Nat := min c (min (n - f) (128 - m))
end
section
/-! ===== own rows over the kit's: numbers as nI, one class of int arrays, worlds ===== -/
section LsRows
variable {p : Program} {l : Launch} {e : Env} {R : Room} {s : State} {m : MethodId} {args : Array Value} {below : List Frame} {meth : Method} {c : Code} {H : Heap} {locs : List Loc} {cells slots : Nat} {Q : State → Prop} {cc : ByteArray} {pc : Nat} {ls : Array Slot} {rest : List Value} {D : va_G} {cl : List vw_C} {ws : va_W} {A : Nat → Prop} {H0 : Heap} {a : Nat} {d : ClassId}
theorem ls_top {x y : Int32} (h : x = y) (k : W p l e R s m args below meth c H locs cells slots Q (F0 m pc ls (.int y :: rest))) : W p l e R s m args below meth c H locs cells slots Q (F0 m pc ls (.int x :: rest)) := by
  subst h
  exact k
theorem ls_ald (hexec : p.tables.exec = Jvm.exec) (hb : c.code = cc) (hK : va_K D cl [(d, .int)] s) (hP : va_P D cl ws H) (q0 : Nat) {n : Nat} {f : Nat → Int32} (ha : ws[q0]? = some (a, .inl (d, n, .inl f))) {k : Nat} (hk : k < n) (hn : n < 2 ^ 31) {v : Int32} (hv : f k = v) (hdg : decode cc pc = .ok (.iaload, 1))
    (kk : W p l e R s m args below meth c H locs cells slots Q (F0 m (pc + 1) ls (.int v :: rest))) : W p l e R s m args below meth c H locs cells slots Q (F0 m pc ls (.int (nI k) :: .ref a :: rest)) := by
  refine va_iald hexec hb hK hP q0 0 ha rfl (vp_in_nI hk hn) hdg ?_
  rw [nI_clamp (Nat.lt_trans hk hn), hv]
  exact kk
theorem ls_ast (hexec : p.tables.exec = Jvm.exec) (hb : c.code = cc) (hK : va_K D cl [(d, .int)] s) (hP : va_P D cl ws H) (hD : va_D A ws) (hS : va_S A H0 H locs) (q0 : Nat) {n : Nat} {f : Nat → Int32} (ha : ws[q0]? = some (a, .inl (d, n, .inl f))) {k : Nat} {x : Int32} (hk : k < n) (hn : n < 2 ^ 31) (hdg : decode cc pc = .ok (.iastore, 1))
    (kk : ∀ (H1 : Heap) (locs1 : List Loc), va_P D cl (ws.set q0 (a, .inl (d, n, .inl (upd f k x)))) H1 → va_D A (ws.set q0 (a, .inl (d, n, .inl (upd f k x)))) → va_S A H0 H1 locs1 → W p l e R s m args below meth c H1 locs1 cells slots Q (F0 m (pc + 1) ls rest)) : W p l e R s m args below meth c H locs cells slots Q (F0 m pc ls (.int x :: .int (nI k) :: .ref a :: rest)) := by
  refine va_iast hexec hb hK hP hD hS q0 0 ha rfl (vp_in_nI hk hn) hdg ?_
  rw [nI_clamp (Nat.lt_trans hk hn)]
  exact kk
/-- an int array made: its class is the one that is known -/
theorem ls_newa (hexec : p.tables.exec = Jvm.exec) (hb : c.code = cc) (harr : (Cond.arrayClass .int).before args s = true) (hK : va_K D cl [(d, .int)] s) (hP : va_P D cl ws H) (hD : va_D A ws) (hS : va_S A H0 H locs) (hA : ∀ q, H0.size ≤ q → A q) {N : Nat} (hN : N < 65536) (hcells : cells + 1 ≤ R.cells) (hslots : slots + N ≤ R.slots) (hdg : decode cc pc = .ok (.newarray .int, 2))
    (kk : ∀ (q : Nat) (H1 : Heap), va_P D cl (ws ++ [(q, .inl (d, N, .inl (fun _ => 0)))]) H1 → va_D A (ws ++ [(q, .inl (d, N, .inl (fun _ => 0)))]) → va_S A H0 H1 locs → W p l e R s m args below meth c H1 locs (cells + 1) (slots + N) Q (F0 m (pc + 2) ls (.ref q :: rest))) : W p l e R s m args below meth c H locs cells slots Q (F0 m pc ls (.int (nI N) :: rest)) := by
  refine va_newa (atype := .int) (ty := .int) (a0 := (N, .inl (fun _ => 0))) hexec hb harr rfl hK hP hD hS hA (fun cA => rfl) (nI_pos (by omega)) (nI_clamp (by omega)) ?_ hcells hslots hdg (fun q cA H1 hK1 hP1 hD1 hS1 => ?_)
  · have e4 : componentBytes FieldType.int = 4 := rfl
    rw [e4]
    omega
  · have e1 : s.vm.findClass ("[" ++ FieldType.int.toString) = some d := (hK.2 0 _ rfl).2
    have e2 : s.vm.findClass ("[" ++ FieldType.int.toString) = some cA := (hK1.2 1 _ rfl).2
    obtain rfl : cA = d := Option.some.inj (e2.symm.trans e1)
    exact kk q H1 hP1 hD1 hS1
theorem ls_ge (hexec : p.tables.exec = Jvm.exec) (hb : c.code = cc) {x y : Nat} {off : Int} {tgt : Nat} (hx : x < 2 ^ 31) (hy : y < 2 ^ 31) (hdg : decode cc pc = .ok (.if_icmp .ge off, 3)) (ht : (pc : Int) + off = (tgt : Int))
    (kt : y ≤ x → W p l e R s m args below meth c H locs cells slots Q (F0 m tgt ls rest)) (kf : x < y → W p l e R s m args below meth c H locs cells slots Q (F0 m (pc + 3) ls rest)) : W p l e R s m args below meth c H locs cells slots Q (F0 m pc ls (.int (nI y) :: .int (nI x) :: rest)) :=
  lv_icmp_ge hexec hb hdg ht (fun h => kt ((nI_leI hy hx).mp h)) (fun h => kf (Nat.lt_of_not_le fun q => h ((nI_leI hy hx).mpr q)))
theorem ls_gt (hexec : p.tables.exec = Jvm.exec) (hb : c.code = cc) {x y : Nat} {off : Int} {tgt : Nat} (hx : x < 2 ^ 31) (hy : y < 2 ^ 31) (hdg : decode cc pc = .ok (.if_icmp .gt off, 3)) (ht : (pc : Int) + off = (tgt : Int))
    (kt : y < x → W p l e R s m args below meth c H locs cells slots Q (F0 m tgt ls rest)) (kf : x ≤ y → W p l e R s m args below meth c H locs cells slots Q (F0 m (pc + 3) ls rest)) : W p l e R s m args below meth c H locs cells slots Q (F0 m pc ls (.int (nI y) :: .int (nI x) :: rest)) :=
  lv_icmp_gt hexec hb hdg ht (fun h => kt ((nI_ltI hy hx).mp h)) (fun h => kf (Nat.le_of_not_lt fun q => h ((nI_ltI hy hx).mpr q)))
theorem ls_le (hexec : p.tables.exec = Jvm.exec) (hb : c.code = cc) {x y : Nat} {off : Int} {tgt : Nat} (hx : x < 2 ^ 31) (hy : y < 2 ^ 31) (hdg : decode cc pc = .ok (.if_icmp .le off, 3)) (ht : (pc : Int) + off = (tgt : Int))
    (kt : x ≤ y → W p l e R s m args below meth c H locs cells slots Q (F0 m tgt ls rest)) (kf : y < x → W p l e R s m args below meth c H locs cells slots Q (F0 m (pc + 3) ls rest)) : W p l e R s m args below meth c H locs cells slots Q (F0 m pc ls (.int (nI y) :: .int (nI x) :: rest)) :=
  lv_icmp_le hexec hb hdg ht (fun h => kt ((nI_leI hx hy).mp h)) (fun h => kf (Nat.lt_of_not_le fun q => h ((nI_leI hx hy).mpr q)))
theorem ls_ne (hexec : p.tables.exec = Jvm.exec) (hb : c.code = cc) {x y : Nat} {off : Int} {tgt : Nat} (hx : x < 2 ^ 31) (hy : y < 2 ^ 31) (hdg : decode cc pc = .ok (.if_icmp .ne off, 3)) (ht : (pc : Int) + off = (tgt : Int))
    (kt : ¬ x = y → W p l e R s m args below meth c H locs cells slots Q (F0 m tgt ls rest)) (kf : x = y → W p l e R s m args below meth c H locs cells slots Q (F0 m (pc + 3) ls rest)) : W p l e R s m args below meth c H locs cells slots Q (F0 m pc ls (.int (nI y) :: .int (nI x) :: rest)) :=
  lv_icmp_ne hexec hb hdg ht (fun h => kt (fun q => h ((nI_eq hx hy).mpr q))) (fun h => kf ((nI_eq hx hy).mp h))
/-- one branch taken for sure -/
theorem ls_ltT (hexec : p.tables.exec = Jvm.exec) (hb : c.code = cc) {x : Int32} {off : Int} {tgt : Nat} (h : x < 0) (hdg : decode cc pc = .ok (.ifCond .lt off, 3)) (ht : (pc : Int) + off = (tgt : Int)) (k : W p l e R s m args below meth c H locs cells slots Q (F0 m tgt ls rest)) : W p l e R s m args below meth c H locs cells slots Q (F0 m pc ls (.int x :: rest)) :=
  lv_if_lt hexec hb hdg ht (fun _ => k) (fun q => absurd h q)
theorem ls_ltF (hexec : p.tables.exec = Jvm.exec) (hb : c.code = cc) {x : Int32} {off : Int} {tgt : Nat} (h : ¬ x < 0) (hdg : decode cc pc = .ok (.ifCond .lt off, 3)) (ht : (pc : Int) + off = (tgt : Int)) (k : W p l e R s m args below meth c H locs cells slots Q (F0 m (pc + 3) ls rest)) : W p l e R s m args below meth c H locs cells slots Q (F0 m pc ls (.int x :: rest)) :=
  lv_if_lt hexec hb hdg ht (fun q => absurd q h) (fun _ => k)
theorem ls_geT (hexec : p.tables.exec = Jvm.exec) (hb : c.code = cc) {x : Int32} {off : Int} {tgt : Nat} (h : 0 ≤ x) (hdg : decode cc pc = .ok (.ifCond .ge off, 3)) (ht : (pc : Int) + off = (tgt : Int)) (k : W p l e R s m args below meth c H locs cells slots Q (F0 m tgt ls rest)) : W p l e R s m args below meth c H locs cells slots Q (F0 m pc ls (.int x :: rest)) :=
  lv_if_ge hexec hb hdg ht (fun _ => k) (fun q => absurd h q)
theorem ls_geF (hexec : p.tables.exec = Jvm.exec) (hb : c.code = cc) {x : Int32} {off : Int} {tgt : Nat} (h : ¬ 0 ≤ x) (hdg : decode cc pc = .ok (.ifCond .ge off, 3)) (ht : (pc : Int) + off = (tgt : Int)) (k : W p l e R s m args below meth c H locs cells slots Q (F0 m (pc + 3) ls rest)) : W p l e R s m args below meth c H locs cells slots Q (F0 m pc ls (.int x :: rest)) :=
  lv_if_ge hexec hb hdg ht (fun q => absurd q h) (fun _ => k)
end LsRows
theorem ls_inc (i : Nat) : nI i + Int32.ofInt 1 = nI (i + 1) := nI_1 i
theorem ls_inc3 (i : Nat) : nI i + Int32.ofInt 3 = nI (i + 3) := nI_add i 3
/-- the one class of int arrays -/
theorem ls_arr {args : Array Value} {s : State} (h : (Cond.arrayClass .int).before args s = true) : ∃ d : ClassId, ArrOfT s d .int ∧ va_RA s d .int := by
  obtain ⟨cA, kA, comp, h1, h2, h3⟩ := Cond.arrayClass_spec h
  exact ⟨cA, fun n z => ⟨fun k h => (by cases h), kA, h2, comp, h3⟩, h1⟩
/-- the classes whose objects the worlds hold -/
abbrev vwCl : List vw_C := [(RX0, TX0, 8), (RX1, TX1, 3), (RX2, TX2, 5)]
/-- Numbers: the object and its two arrays -/
abbrev nbW (d : ClassId) (a1 a2 a3 : Nat) (li sl : Nat → Int32) (mn : Nat) : va_W := [(a1, .inr (1, [.ref a2, .ref a3, .int (nI mn)])), (a2, .inl (d, 256, .inl li)), (a3, .inl (d, 1024, .inl sl))]
/-- LeastScript: the object, its Numbers, its five arrays; g: their addresses -/
abbrev lsW (d : ClassId) (g : Nat → Nat) (li sl le ll la be en : Nat → Int32) (mn n m : Nat) : va_W := [(g 0, .inr (0, [.ref (g 1), .ref (g 4), .ref (g 5), .ref (g 6), .ref (g 7), .int (nI n), .int (nI m), .ref (g 8)])), (g 1, .inr (1, [.ref (g 2), .ref (g 3), .int (nI mn)])), (g 2, .inl (d, 256, .inl li)), (g 3, .inl (d, 1024, .inl sl)), (g 4, .inl (d, 128, .inl le)), (g 5, .inl (d, 128, .inl ll)), (g 6, .inl (d, 256, .inl la)), (g 7, .inl (d, 128, .inl be)), (g 8, .inl (d, 128, .inl en))]
/-- LeastScriptModel: the object and its three arrays -/
abbrev mdW (d : ClassId) (g : Nat → Nat) (a b r : Nat → Int32) (n m : Nat) : va_W := [(g 0, .inr (2, [.ref (g 1), .ref (g 2), .int (nI n), .int (nI m), .ref (g 3)])), (g 1, .inl (d, 128, .inl a)), (g 2, .inl (d, 128, .inl b)), (g 3, .inl (d, 129, .inl r))]
/-- a contract's start: the heap holds the world ws -/
abbrev cPre (dC : Nat → ClassId) (dI : Nat → Nat → Nat) (d : ClassId) (av : List Value) (sz : Nat) (ws : va_W) : Array Value → State → Prop := va_Pc av (fun U => U.heap.size = sz ∧ va_P (dC, dI) vwCl ws U.heap ∧ va_K (dC, dI) vwCl [(d, .int)] U ∧ va_D (fun _ => True) ws)
/-- behind it: the heap holds the world wf u -/
abbrev cB {S : Type} (dC : Nat → ClassId) (dI : Nat → Nat → Nat) (d : ClassId) (A : Nat → Prop) (wf : S → va_W) : S → State → Prop := fun u t => va_P (dC, dI) vwCl (wf u) t.heap ∧ va_K (dC, dI) vwCl [(d, .int)] t ∧ va_D A (wf u)
theorem ls_blind {dC : Nat → ClassId} {dI : Nat → Nat → Nat} {d : ClassId} {av : List Value} {sz : Nat} {ws : va_W} : FrameBlind (cPre dC dI d av sz ws) := fun a U g mk q => by
  obtain ⟨q0, q1, qP, qK, qD⟩ := q
  exact ⟨q0, q1, qP, va_K.moved (u := U) (U := U.calling g mk a) (Vm.Alike.refl U.vm) qK, qD⟩
theorem ls_pre {dC : Nat → ClassId} {dI : Nat → Nat → Nat} {d : ClassId} {av : List Value} {ws : va_W} {s : State} {H : Heap} {A : Nat → Prop} (hP : va_P (dC, dI) vwCl ws H) (hK : va_K (dC, dI) vwCl [(d, .int)] s) (hD : va_D A ws) : ∀ U : State, U.heap = H → s.WarmedH U.vm → cPre dC dI d av H.size ws av.toArray U := fun U hU hW => ⟨rfl, by rw [hU], by rw [hU]; exact hP, va_K.moved hW.alike hK, hD.weaken (fun _ _ _ _ => trivial)⟩
end
section
/-! ===== LeastScript$Numbers: contracts ===== -/
set_option maxHeartbeats 4000000 in
set_option maxRecDepth 100000 in
/-- Numbers.clear, its loop at the head: i slots are free -/
theorem nc_loop {p : Program} {l : Launch} {e : Env} {R : Room} {s : State} {m0 : MethodId} {args : Array Value} {below : List Frame} {meth : Method} {c : Code} {cells slots : Nat} {Q : State → Prop} {dC : Nat → ClassId} {dI : Nat → Nat → Nat} {d : ClassId} {A : Nat → Prop} {a1 a2 a3 : Nat} {li : Nat → Int32} {mn : Nat} (hx : p.tables.exec = Jvm.exec) (hb : c.code = cX1_clear) (hts : ∀ w ∈ lw_all, w.before args s = true) (hown : s.vm.findClass RX1 = some m0.cls) (hK : va_K (dC, dI) vwCl [(d, .int)] s)
    (hend : ∀ (sl : Nat → Int32) (H : Heap) (locs : List Loc) (ls : Array Slot), (∀ k, k < 1024 → sl k = -1) → va_P (dC, dI) vwCl (nbW d a1 a2 a3 li sl mn) H → va_D A (nbW d a1 a2 a3 li sl mn) → va_S A s.heap H locs → W p l e R s m0 args below meth c H locs cells slots Q (F0 m0 27 ls [])) :
    ∀ (n i : Nat) (sl : Nat → Int32) (H : Heap) (locs : List Loc) (ls : Array Slot), i ≤ 1024 → 1025 ≤ i + n → (∀ k, k < i → sl k = -1) → va_P (dC, dI) vwCl (nbW d a1 a2 a3 li sl mn) H → va_D A (nbW d a1 a2 a3 li sl mn) → va_S A s.heap H locs → lv_has ls 2 [(0, .ref a1), (1, .int (nI i))] → W p l e R s m0 args below meth c H locs cells slots Q (F0 m0 7 ls []) := by
  intro n
  induction n with
  | zero =>
    intro i sl H locs ls h1 h2
    exact absurd h2 (by omega)
  | succ n ih =>
    intro i sl H locs ls hi hin hz hP hD hS hl
    refine lv_iload_n hx hb dX1_clear_7 rfl (lv_at hl 1 rfl) ?_
    refine lv_sipush (v := nI 1024) hx hb dX1_clear_8 (by decide) ?_
    refine ls_ge (x := i) (y := 1024) (tgt := 27) hx hb (by omega) (by omega) dX1_clear_11 (by decide) (fun hc => ?_) (fun hc => ?_)
    · exact hend sl H locs ls (fun k hk => hz k (by omega)) hP hD hS
    · refine lv_aload_n hx hb dX1_clear_14 rfl (lv_at hl 0 rfl) ?_
      refine va_get (D := (dC, dI)) (ci := 1) (v := .ref a3) (C := RX1) (T := TX1) (N := 3) hx hb hts in_X1 hown hK hP 0 rfl rfl 1 (by decide) (hts _ q24) (fun _ h9 => h9) rfl dX1_clear_15 ?_
      refine lv_iload_n hx hb dX1_clear_18 rfl (lv_at hl 1 rfl) ?_
      refine lv_iconst (v := (-1)) hx hb dX1_clear_19 (by decide) ?_
      refine ls_ast (k := i) hx hb hK hP hD hS 2 rfl (by omega) (by decide) dX1_clear_20 (fun H locs hP hD hS => ?_)
      have hP : va_P (dC, dI) vwCl (nbW d a1 a2 a3 li (upd sl i (-1)) mn) H := hP
      have hD : va_D A (nbW d a1 a2 a3 li (upd sl i (-1)) mn) := hD
      refine lv_iinc (v := nI (i + 1)) (lv' := [(1, .int (nI (i + 1))), (0, .ref a1)]) hx hb dX1_clear_21 hl (k := 1) rfl (ls_inc i) (by decide) rfl (fun ls hl => ?_)
      refine lv_goto (tgt := 7) hx hb dX1_clear_24 (by decide) ?_
      refine ih (i + 1) _ H locs ls (by omega) (by omega) (fun k hk => ?_) hP hD hS (lv_sub hl [1, 0] rfl)
      by_cases ek : k = i
      · rw [ek, pk_us]
      · rw [pk_un ek]
        exact hz k (by omega)
set_option maxHeartbeats 4000000 in
set_option maxRecDepth 100000 in
/-- Numbers.clear(): no line, every slot free -/
theorem met_nclear (l : Launch) (dC : Nat → ClassId) (dI : Nat → Nat → Nat) (d : ClassId) (a1 a2 a3 : Nat) (li sl : Nat → Int32) (mn : Nat) (sz : Nat) : Met l yX1_clear (ws_ yX1_clear cX1_clear 2 none) ({ frames := 0, cells := 0, slots := 0, locals := 0 }) (cPre dC dI d [.ref a1] sz (nbW d a1 a2 a3 li sl mn)) (va_Qv (fun (u : Nat → Int32) => ∀ k, k < 1024 → u k = -1) (cB dC dI d (va_A (nbW d a1 a2 a3 li sl mn) sz) (fun u => nbW d a1 a2 a3 li u 0)) (va_A (nbW d a1 a2 a3 li sl mn) sz)) 0 0 (va_A (nbW d a1 a2 a3 li sl mn) sz) := by
  refine Met.ofW (cc := cX1_clear) (maxL := 2) (ret := none) (by decide) rfl ?_
  intro p e s m0 args below meth c s₁ B hml hv
  obtain ⟨rfl, hsz, hP, hK, hD0⟩ := hv
  have hx := B.exec
  have hb := B.bytes
  have hr := B.returns
  have hts := atoms_spec (ws := ws_ yX1_clear cX1_clear 2 none) B.pre
  have hts : ∀ w ∈ lw_all, w.before _ s = true := fun w h => hts w (List.mem_cons_of_mem _ h)
  have hown : s.vm.findClass RX1 = some m0.cls := findClass_of_methodNamed B.named
  have hlocks := B.notSynchronized
  subst hsz
  have hD := hD0.self (sz := s.heap.size)
  generalize hAe : va_A (nbW d a1 a2 a3 li sl mn) s.heap.size = A at hD ⊢
  have hA : ∀ q : Nat, s.heap.size ≤ q → A q := fun q h => by rw [← hAe]; exact Or.inr h
  have hS : va_S A s.heap s.heap [] := va_S.rf
  have hP : va_P (dC, dI) vwCl (nbW d a1 a2 a3 li sl mn) s.heap := hP
  have hl := lv_entry ([.ref a1]) (n := 2) (Nat.le_of_ble_eq_true rfl)
  rw [lg_entry_eq]
  generalize (lg_sl ([.ref a1]) ++ List.replicate (2 - (lg_sl ([.ref a1])).length) Slot.unset).toArray = ls at hl ⊢
  have hl : lv_has ls 2 [(0, .ref a1)] := hl
  refine lv_aload_n hx hb dX1_clear_0 rfl (lv_at hl 0 rfl) ?_
  refine lv_iconst (v := nI 0) hx hb dX1_clear_1 (by decide) ?_
  refine va_put (D := (dC, dI)) (ci := 1) (v := .int (nI 0)) (ty := .int) (C := RX1) (T := TX1) (N := 3) hx hb hts in_X1 tyX1 tyX1_ok nmX1 hown hK hP hD hS 0 rfl rfl 2 (by decide) (hts _ q25) (fun _ h9 => h9) rfl (by decide +kernel) rfl rfl (Nat.le_of_ble_eq_true rfl) dX1_clear_2 (fun H locs hP hD hS => ?_)
  have hP : va_P (dC, dI) vwCl (nbW d a1 a2 a3 li sl 0) H := hP
  have hD : va_D A (nbW d a1 a2 a3 li sl 0) := hD
  refine lv_iconst (v := nI 0) hx hb dX1_clear_5 (by decide) ?_
  refine lv_istore_n (lv' := [(1, .int (nI 0)), (0, .ref a1)]) hx hb dX1_clear_6 rfl hl (by decide) rfl (fun ls hl => ?_)
  refine nc_loop hx hb hts hown hK (fun sl H locs ls hz hP hD hS => ?_) 1025 0 sl H locs ls (by omega) (by omega) (fun k hk => absurd hk (Nat.not_lt_zero k)) hP hD hS (lv_sub hl [1, 0] rfl)
  exact W.vret hx hb hr (fun t ht hW => ⟨⟨sl, rfl, hz, by rw [ht]; exact hP, va_K.moved hW.alike hK, hD⟩, hS.F ht⟩) hS.2.2 dX1_clear_27
set_option maxHeartbeats 4000000 in
set_option maxRecDepth 100000 in
/-- Numbers(): two arrays, no line, every slot free -/
theorem met_ninit (l : Launch) (dC : Nat → ClassId) (dI : Nat → Nat → Nat) (d : ClassId) (a1 : Nat) (sz : Nat) : Met l yX1_init (ws_ yX1_init cX1_init 1 none) ({ frames := 1, cells := 2, slots := 1280, locals := 21 }) (cPre dC dI d [.ref a1] sz ([(a1, .inr (1, [.null, .null, .int (nI 0)]))])) (va_Qv (fun (u : Nat × Nat × (Nat → Int32)) => ∀ k, k < 1024 → u.2.2 k = -1) (cB dC dI d (va_A ([(a1, .inr (1, [.null, .null, .int (nI 0)]))]) sz) (fun u => nbW d a1 u.1 u.2.1 (fun _ => 0) u.2.2 0)) (va_A ([(a1, .inr (1, [.null, .null, .int (nI 0)]))]) sz)) 2 1280 (va_A ([(a1, .inr (1, [.null, .null, .int (nI 0)]))]) sz) := by
  refine Met.ofW (cc := cX1_init) (maxL := 1) (ret := none) (by decide) rfl ?_
  intro p e s m0 args below meth c s₁ B hml hv
  obtain ⟨rfl, hsz, hP, hK, hD0⟩ := hv
  have hx := B.exec
  have hb := B.bytes
  have hr := B.returns
  have hts := atoms_spec (ws := ws_ yX1_init cX1_init 1 none) B.pre
  have hts : ∀ w ∈ lw_all, w.before _ s = true := fun w h => hts w (List.mem_cons_of_mem _ h)
  have hown : s.vm.findClass RX1 = some m0.cls := findClass_of_methodNamed B.named
  have hlocks := B.notSynchronized
  have hin : meth.name = "<init>" := (name_of_methodNamed B.named B.method).1
  subst hsz
  have hD := hD0.self (sz := s.heap.size)
  generalize hAe : va_A ([(a1, .inr (1, [.null, .null, .int (nI 0)]))]) s.heap.size = A at hD ⊢
  have hA : ∀ q : Nat, s.heap.size ≤ q → A q := fun q h => by rw [← hAe]; exact Or.inr h
  have hS : va_S A s.heap s.heap [] := va_S.rf
  have hP : va_P (dC, dI) vwCl ([(a1, .inr (1, [.null, .null, .int (nI 0)]))]) s.heap := hP
  have hl := lv_entry ([.ref a1]) (n := 1) (Nat.le_of_ble_eq_true rfl)
  rw [lg_entry_eq]
  generalize (lg_sl ([.ref a1]) ++ List.replicate (1 - (lg_sl ([.ref a1])).length) Slot.unset).toArray = ls at hl ⊢
  have hl : lv_has ls 1 [(0, .ref a1)] := hl
  refine lv_aload_n hx hb dX1_init_0 rfl (lv_at hl 0 rfl) ?_
  refine W.objInit hx hb hown (hts _ q18) (hts _ q11) (hts _ q12) rfl (by rw [hml]; exact hl.1) rfl dX1_init_1 (Nat.le_of_ble_eq_true rfl) (Nat.le_of_ble_eq_true rfl) ?_
  refine W.eq (g2 := F0 m0 4 ls []) rfl ?_
  refine lv_aload_n hx hb dX1_init_4 rfl (lv_at hl 0 rfl) ?_
  refine lv_sipush (v := nI 256) hx hb dX1_init_5 (by decide) ?_
  refine ls_newa (N := 256) hx hb (hts _ q33) hK hP hD hS hA (by decide) (Nat.le_of_ble_eq_true rfl) (Nat.le_of_ble_eq_true rfl) dX1_init_8 (fun a2 H hP hD hS => ?_)
  have hP : va_P (dC, dI) vwCl ([(a1, .inr (1, [.null, .null, .int (nI 0)])), (a2, .inl (d, 256, .inl (fun _ => 0)))]) H := hP
  have hD : va_D A ([(a1, .inr (1, [.null, .null, .int (nI 0)])), (a2, .inl (d, 256, .inl (fun _ => 0)))]) := hD
  refine va_putF (D := (dC, dI)) (ci := 1) (v := .ref a2) (ty := (.array .int)) (C := RX1) (T := TX1) (N := 3) hx hb hts in_X1 tyX1 tyX1_ok nmX1 hown hK hP hD hS 0 rfl rfl 0 (by decide) (hts _ q23) (fun _ h9 => h9) rfl hin rfl (by decide +kernel) rfl rfl (Nat.le_of_ble_eq_true rfl) dX1_init_10 (fun H locs hP hD hS => ?_)
  have hP : va_P (dC, dI) vwCl ([(a1, .inr (1, [.ref a2, .null, .int (nI 0)])), (a2, .inl (d, 256, .inl (fun _ => 0)))]) H := hP
  have hD : va_D A ([(a1, .inr (1, [.ref a2, .null, .int (nI 0)])), (a2, .inl (d, 256, .inl (fun _ => 0)))]) := hD
  refine lv_aload_n hx hb dX1_init_13 rfl (lv_at hl 0 rfl) ?_
  refine lv_sipush (v := nI 1024) hx hb dX1_init_14 (by decide) ?_
  refine ls_newa (N := 1024) hx hb (hts _ q33) hK hP hD hS hA (by decide) (Nat.le_of_ble_eq_true rfl) (Nat.le_of_ble_eq_true rfl) dX1_init_17 (fun a3 H hP hD hS => ?_)
  have hP : va_P (dC, dI) vwCl ([(a1, .inr (1, [.ref a2, .null, .int (nI 0)])), (a2, .inl (d, 256, .inl (fun _ => 0))), (a3, .inl (d, 1024, .inl (fun _ => 0)))]) H := hP
  have hD : va_D A ([(a1, .inr (1, [.ref a2, .null, .int (nI 0)])), (a2, .inl (d, 256, .inl (fun _ => 0))), (a3, .inl (d, 1024, .inl (fun _ => 0)))]) := hD
  refine va_putF (D := (dC, dI)) (ci := 1) (v := .ref a3) (ty := (.array .int)) (C := RX1) (T := TX1) (N := 3) hx hb hts in_X1 tyX1 tyX1_ok nmX1 hown hK hP hD hS 0 rfl rfl 1 (by decide) (hts _ q24) (fun _ h9 => h9) rfl hin rfl (by decide +kernel) rfl rfl (Nat.le_of_ble_eq_true rfl) dX1_init_19 (fun H locs hP hD hS => ?_)
  have hP : va_P (dC, dI) vwCl ([(a1, .inr (1, [.ref a2, .ref a3, .int (nI 0)])), (a2, .inl (d, 256, .inl (fun _ => 0))), (a3, .inl (d, 1024, .inl (fun _ => 0)))]) H := hP
  have hD : va_D A ([(a1, .inr (1, [.ref a2, .ref a3, .int (nI 0)])), (a2, .inl (d, 256, .inl (fun _ => 0))), (a3, .inl (d, 1024, .inl (fun _ => 0)))]) := hD
  refine lv_aload_n hx hb dX1_init_22 rfl (lv_at hl 0 rfl) ?_
  have hP : va_P (dC, dI) vwCl (nbW d a1 a2 a3 (fun _ => 0) (fun _ => 0) 0) H := hP
  have hD : va_D A (nbW d a1 a2 a3 (fun _ => 0) (fun _ => 0) 0) := hD
  have hPc := hP.sub (ws' := (nbW d a1 a2 a3 (fun _ => 0) (fun _ => 0) 0)) [0, 1, 2] rfl
  have hDc := hD.sub (ws' := (nbW d a1 a2 a3 (fun _ => 0) (fun _ => 0) 0)) [0, 1, 2] (by decide) rfl
  have hFc := va_free (wc := (nbW d a1 a2 a3 (fun _ => 0) (fun _ => 0) 0)) hD hS hA [0, 1, 2] rfl
  refine va_callv (va_runV (As := []) (rest := []) ⟨hx, hb, hml, hown, hts⟩ (met_nclear l dC dI d a1 a2 a3 (fun _ => 0) (fun _ => 0) 0 H.size) (cwV 0 hts (lw_V q19 q20 q21 q2 q22) rfl rfl rfl (by decide +kernel) ⟨Nat.le_of_ble_eq_true rfl, Nat.le_of_ble_eq_true rfl⟩) ⟨ls_blind, va_recv hK hPc (ci := 1) (q0 := 0) rfl rfl, ls_pre hPc hK hDc⟩ rfl rfl hl.1 rfl (lv_room (Nat.le_of_ble_eq_true rfl)) dX1_init_23 ⟨Nat.le_of_ble_eq_true rfl, Nat.le_of_ble_eq_true rfl⟩) hS (fun q _ h => hFc q h) hFc (fun u t H1 locs ht hvm hw hB hz1 hk1 hS => ?_)
  obtain ⟨hP1, hK1, hD1⟩ := hB
  rw [ht] at hP1
  obtain ⟨hP, hD⟩ := va_join (wr := []) (w1 := (nbW d a1 a2 a3 (fun _ => 0) u 0)) hP hD [0, 1, 2] [] rfl rfl (by decide) (by decide) hk1 hFc hP1 hD1
  generalize H1 = H at hP hS ⊢
  have hP : va_P (dC, dI) vwCl (nbW d a1 a2 a3 (fun _ => 0) u 0) H := hP.sub [0, 1, 2] rfl
  have hD : va_D A (nbW d a1 a2 a3 (fun _ => 0) u 0) := hD.sub [0, 1, 2] (by decide) rfl
  refine W.widen (k := 2) (n := 1280) (Nat.le_of_ble_eq_true rfl) (Nat.le_of_ble_eq_true rfl) ?_
  exact W.vret hx hb hr (fun t ht hW => ⟨⟨(a2, a3, u), rfl, hw, by rw [ht]; exact hP, va_K.moved hW.alike hK, hD⟩, hS.F ht⟩) hS.2.2 dX1_init_26
set_option maxHeartbeats 4000000 in
set_option maxRecDepth 100000 in
/-- Numbers.of, its loop at the head: u slots looked at, none of them free, none with the line -/
theorem no_loop {p : Program} {l : Launch} {e : Env} {R : Room} {s : State} {m0 : MethodId} {args : Array Value} {below : List Frame} {meth : Method} {c : Code} {cells slots : Nat} {Q : State → Prop} {dC : Nat → ClassId} {dI : Nat → Nat → Nat} {d : ClassId} {A : Nat → Prop} {H : Heap} {locs : List Loc} {a1 a2 a3 : Nat} {li sl : Nat → Int32} {mn e0 : Nat} {w : Int32} (hx : p.tables.exec = Jvm.exec) (hb : c.code = cX1_of) (hts : ∀ w ∈ lw_all, w.before args s = true) (hown : s.vm.findClass RX1 = some m0.cls) (hK : va_K (dC, dI) vwCl [(d, .int)] s) (hP : va_P (dC, dI) vwCl (nbW d a1 a2 a3 li sl mn) H) (hI : nb_I li sl mn) (he : e0 < 1024) (he2 : sl ((nb_h w + e0) % 1024) = -1)
    (hend : ∀ (u : Nat) (ls : Array Slot), u < 1024 → (∀ v, v < u → ∃ k, k < mn ∧ sl ((nb_h w + v) % 1024) = nI k ∧ ¬ li k = w) → (sl ((nb_h w + u) % 1024) = -1 ∨ ∃ k, k < mn ∧ sl ((nb_h w + u) % 1024) = nI k ∧ li k = w) → lv_has ls 3 [(0, .ref a1), (1, .int w), (2, .int (nI ((nb_h w + u) % 1024)))] → W p l e R s m0 args below meth c H locs cells slots Q (F0 m0 48 ls [])) :
    ∀ (n u : Nat) (ls : Array Slot), u ≤ e0 → e0 + 1 ≤ u + n → (∀ v, v < u → ∃ k, k < mn ∧ sl ((nb_h w + v) % 1024) = nI k ∧ ¬ li k = w) → lv_has ls 3 [(0, .ref a1), (1, .int w), (2, .int (nI ((nb_h w + u) % 1024)))] → W p l e R s m0 args below meth c H locs cells slots Q (F0 m0 13 ls []) := by
  have hmn : mn ≤ 256 := hI.1
  intro n
  induction n with
  | zero =>
    intro u ls h1 h2
    exact absurd h2 (by omega)
  | succ n ih =>
    intro u ls hu hun hs hl
    have hlt : (nb_h w + u) % 1024 < 1024 := Nat.mod_lt _ (by decide)
    refine lv_aload_n hx hb dX1_of_13 rfl (lv_at hl 0 rfl) ?_
    refine va_get (D := (dC, dI)) (ci := 1) (v := .ref a3) (C := RX1) (T := TX1) (N := 3) hx hb hts in_X1 hown hK hP 0 rfl rfl 1 (by decide) (hts _ q24) (fun _ h9 => h9) rfl dX1_of_14 ?_
    refine lv_iload_n hx hb dX1_of_17 rfl (lv_at hl 2 rfl) ?_
    rcases hI.2.2.1 ((nb_h w + u) % 1024) hlt with hz | ⟨k, hk, hz⟩
    · refine ls_ald (k := ((nb_h w + u) % 1024)) (v := (-1)) hx hb hK hP 2 rfl (hlt) (by decide) (hz) dX1_of_18 ?_
      refine ls_ltT (tgt := 48) hx hb (by decide) dX1_of_19 (by decide) ?_
      exact hend u ls (by omega) hs (Or.inl hz) hl
    · refine ls_ald (k := ((nb_h w + u) % 1024)) (v := nI k) hx hb hK hP 2 rfl (hlt) (by decide) (hz) dX1_of_18 ?_
      refine ls_ltF (tgt := 48) hx hb (nI_pos (by omega)) dX1_of_19 (by decide) ?_
      refine lv_aload_n hx hb dX1_of_22 rfl (lv_at hl 0 rfl) ?_
      refine va_get (D := (dC, dI)) (ci := 1) (v := .ref a2) (C := RX1) (T := TX1) (N := 3) hx hb hts in_X1 hown hK hP 0 rfl rfl 0 (by decide) (hts _ q23) (fun _ h9 => h9) rfl dX1_of_23 ?_
      refine lv_aload_n hx hb dX1_of_26 rfl (lv_at hl 0 rfl) ?_
      refine va_get (D := (dC, dI)) (ci := 1) (v := .ref a3) (C := RX1) (T := TX1) (N := 3) hx hb hts in_X1 hown hK hP 0 rfl rfl 1 (by decide) (hts _ q24) (fun _ h9 => h9) rfl dX1_of_27 ?_
      refine lv_iload_n hx hb dX1_of_30 rfl (lv_at hl 2 rfl) ?_
      refine ls_ald (k := ((nb_h w + u) % 1024)) (v := nI k) hx hb hK hP 2 rfl (hlt) (by decide) (hz) dX1_of_31 ?_
      refine ls_ald (k := k) (v := li k) hx hb hK hP 1 rfl (by omega) (by decide) (rfl) dX1_of_32 ?_
      refine lv_iload_n hx hb dX1_of_33 rfl (lv_at hl 1 rfl) ?_
      refine lv_icmp_eq (tgt := 48) hx hb dX1_of_34 (by decide) (fun hc => ?_) (fun hc => ?_)
      · exact hend u ls (by omega) hs (Or.inr ⟨k, hk, hz, hc⟩) hl
      · refine lv_iload_n hx hb dX1_of_37 rfl (lv_at hl 2 rfl) ?_
        refine lv_iconst (v := nI 1) hx hb dX1_of_38 (by decide) ?_
        refine lv_iadd hx hb dX1_of_39 ?_
        refine ls_top (nI_add ((nb_h w + u) % 1024) 1) ?_
        refine lv_sipush (v := nI 1023) hx hb dX1_of_40 (by decide) ?_
        refine lv_iand hx hb dX1_of_43 ?_
        refine ls_top ((pk_andN (m := nI 1023) (by omega) 10 (by decide)).trans (congrArg nI (show ((nb_h w + u) % 1024 + 1) % 2 ^ 10 = (nb_h w + (u + 1)) % 1024 by omega))) ?_
        refine lv_istore_n (lv' := [(2, .int (nI ((nb_h w + (u + 1)) % 1024))), (0, .ref a1), (1, .int w)]) hx hb dX1_of_44 rfl hl (by decide) rfl (fun ls hl => ?_)
        refine lv_goto (tgt := 13) hx hb dX1_of_45 (by decide) ?_
        have hne : u ≠ e0 := fun q => by
          rw [q, he2] at hz
          exact nb_m1 (by omega) hz.symm
        refine ih (u + 1) ls (by omega) (by omega) (fun v hv => ?_) (lv_sub hl [1, 2, 0] rfl)
        by_cases ev : v = u
        · rw [ev]
          exact ⟨k, hk, hz, hc⟩
        · exact hs v (by omega)
set_option maxHeartbeats 4000000 in
set_option maxRecDepth 100000 in
/-- Numbers.of(w): the line's number, a new one where it wasn't there -/
theorem met_of (l : Launch) (dC : Nat → ClassId) (dI : Nat → Nat → Nat) (d : ClassId) (a1 a2 a3 : Nat) (li sl : Nat → Int32) (mn : Nat) (w : Int32) (sz : Nat) (hI : nb_I li sl mn) (hmn : mn < 256) : Met l yX1_of (ws_ yX1_of cX1_of 3 (some .int)) ({ frames := 0, cells := 0, slots := 0, locals := 0 }) (cPre dC dI d [.ref a1, .int w] sz (nbW d a1 a2 a3 li sl mn)) (va_Qi (fun (r : Int32) (u : (Nat → Int32) × (Nat → Int32) × Nat) => ∃ k, r = nI k ∧ nb_R li mn w k u.1 u.2.1 u.2.2) (cB dC dI d (va_A (nbW d a1 a2 a3 li sl mn) sz) (fun u => nbW d a1 a2 a3 u.1 u.2.1 u.2.2)) (va_A (nbW d a1 a2 a3 li sl mn) sz)) 0 0 (va_A (nbW d a1 a2 a3 li sl mn) sz) := by
  refine Met.ofW (cc := cX1_of) (maxL := 3) (ret := (some .int)) (by decide) rfl ?_
  intro p e s m0 args below meth c s₁ B hml hv
  obtain ⟨rfl, hsz, hP, hK, hD0⟩ := hv
  have hx := B.exec
  have hb := B.bytes
  have hr := B.returns
  have hts := atoms_spec (ws := ws_ yX1_of cX1_of 3 (some .int)) B.pre
  have hts : ∀ w ∈ lw_all, w.before _ s = true := fun w h => hts w (List.mem_cons_of_mem _ h)
  have hown : s.vm.findClass RX1 = some m0.cls := findClass_of_methodNamed B.named
  have hlocks := B.notSynchronized
  subst hsz
  have hD := hD0.self (sz := s.heap.size)
  generalize hAe : va_A (nbW d a1 a2 a3 li sl mn) s.heap.size = A at hD ⊢
  have hA : ∀ q : Nat, s.heap.size ≤ q → A q := fun q h => by rw [← hAe]; exact Or.inr h
  have hS : va_S A s.heap s.heap [] := va_S.rf
  have hP : va_P (dC, dI) vwCl (nbW d a1 a2 a3 li sl mn) s.heap := hP
  have hl := lv_entry ([.ref a1, .int w]) (n := 3) (Nat.le_of_ble_eq_true rfl)
  rw [lg_entry_eq]
  generalize (lg_sl ([.ref a1, .int w]) ++ List.replicate (3 - (lg_sl ([.ref a1, .int w])).length) Slot.unset).toArray = ls at hl ⊢
  have hl : lv_has ls 3 [(0, .ref a1), (1, .int w)] := hl
  refine lv_iload_n hx hb dX1_of_0 rfl (lv_at hl 1 rfl) ?_
  refine lv_iload_n hx hb dX1_of_1 rfl (lv_at hl 1 rfl) ?_
  refine lv_bipush (v := 15) hx hb dX1_of_2 (by decide) ?_
  refine lv_iushr (v := (w.toUInt32 >>> ((15 : Int32).toUInt32 &&& Int32.toUInt32 31)).toInt32) hx hb dX1_of_4 (rfl) ?_
  refine lv_ixor hx hb dX1_of_5 ?_
  refine lv_ldc (v := (-1640531535)) hx hb hown (hts _ q72) dX1_of_6 ?_
  refine lv_imul hx hb dX1_of_8 ?_
  refine lv_bipush (v := 22) hx hb dX1_of_9 (by decide) ?_
  refine lv_iushr (v := nI ((nb_h w + 0) % 1024)) hx hb dX1_of_11 ((nb_h_eq w).trans (congrArg nI (show nb_h w = (nb_h w + 0) % 1024 by have := nb_h_lt w; omega))) ?_
  refine lv_istore_n (lv' := [(2, .int (nI ((nb_h w + 0) % 1024))), (0, .ref a1), (1, .int w)]) hx hb dX1_of_12 rfl hl (by decide) rfl (fun ls hl => ?_)
  obtain ⟨e0, he, he2⟩ := nb_free hI (nb_h w)
  refine no_loop (A := A) hx hb hts hown hK hP hI he he2 (fun u ls hu hs hc hl => ?_) (e0 + 1) 0 ls (Nat.zero_le _) (by omega) (fun v hv => absurd hv (Nat.not_lt_zero v)) (lv_sub hl [1, 2, 0] rfl)
  have hlt : (nb_h w + u) % 1024 < 1024 := Nat.mod_lt _ (by decide)
  refine lv_aload_n hx hb dX1_of_48 rfl (lv_at hl 0 rfl) ?_
  refine va_get (D := (dC, dI)) (ci := 1) (v := .ref a3) (C := RX1) (T := TX1) (N := 3) hx hb hts in_X1 hown hK hP 0 rfl rfl 1 (by decide) (hts _ q24) (fun _ h9 => h9) rfl dX1_of_49 ?_
  refine lv_iload_n hx hb dX1_of_52 rfl (lv_at hl 2 rfl) ?_
  rcases hc with hz | ⟨k, hk, hz, hk2⟩
  · refine ls_ald (k := ((nb_h w + u) % 1024)) (v := (-1)) hx hb hK hP 2 rfl (hlt) (by decide) (hz) dX1_of_53 ?_
    refine ls_geF (tgt := 84) hx hb (by decide) dX1_of_54 (by decide) ?_
    refine lv_aload_n hx hb dX1_of_57 rfl (lv_at hl 0 rfl) ?_
    refine va_get (D := (dC, dI)) (ci := 1) (v := .ref a3) (C := RX1) (T := TX1) (N := 3) hx hb hts in_X1 hown hK hP 0 rfl rfl 1 (by decide) (hts _ q24) (fun _ h9 => h9) rfl dX1_of_58 ?_
    refine lv_iload_n hx hb dX1_of_61 rfl (lv_at hl 2 rfl) ?_
    refine lv_aload_n hx hb dX1_of_62 rfl (lv_at hl 0 rfl) ?_
    refine va_get (D := (dC, dI)) (ci := 1) (v := .int (nI mn)) (C := RX1) (T := TX1) (N := 3) hx hb hts in_X1 hown hK hP 0 rfl rfl 2 (by decide) (hts _ q25) (fun _ h9 => h9) rfl dX1_of_63 ?_
    refine ls_ast (k := ((nb_h w + u) % 1024)) hx hb hK hP hD hS 2 rfl (hlt) (by decide) dX1_of_66 (fun H locs hP hD hS => ?_)
    have hP : va_P (dC, dI) vwCl (nbW d a1 a2 a3 li (upd sl ((nb_h w + u) % 1024) (nI mn)) mn) H := hP
    have hD : va_D A (nbW d a1 a2 a3 li (upd sl ((nb_h w + u) % 1024) (nI mn)) mn) := hD
    refine lv_aload_n hx hb dX1_of_67 rfl (lv_at hl 0 rfl) ?_
    refine va_get (D := (dC, dI)) (ci := 1) (v := .ref a2) (C := RX1) (T := TX1) (N := 3) hx hb hts in_X1 hown hK hP 0 rfl rfl 0 (by decide) (hts _ q23) (fun _ h9 => h9) rfl dX1_of_68 ?_
    refine lv_aload_n hx hb dX1_of_71 rfl (lv_at hl 0 rfl) ?_
    refine lv_dup hx hb dX1_of_72 rfl ?_
    refine va_get (D := (dC, dI)) (ci := 1) (v := .int (nI mn)) (C := RX1) (T := TX1) (N := 3) hx hb hts in_X1 hown hK hP 0 rfl rfl 2 (by decide) (hts _ q25) (fun _ h9 => h9) rfl dX1_of_73 ?_
    refine lv_dup_x1 hx hb dX1_of_76 rfl rfl ?_
    refine lv_iconst (v := nI 1) hx hb dX1_of_77 (by decide) ?_
    refine lv_iadd hx hb dX1_of_78 ?_
    refine ls_top (nI_add mn 1) ?_
    refine va_put (D := (dC, dI)) (ci := 1) (v := .int (nI (mn + 1))) (ty := .int) (C := RX1) (T := TX1) (N := 3) hx hb hts in_X1 tyX1 tyX1_ok nmX1 hown hK hP hD hS 0 rfl rfl 2 (by decide) (hts _ q25) (fun _ h9 => h9) rfl (by decide +kernel) rfl rfl (Nat.le_of_ble_eq_true rfl) dX1_of_79 (fun H locs hP hD hS => ?_)
    have hP : va_P (dC, dI) vwCl (nbW d a1 a2 a3 li (upd sl ((nb_h w + u) % 1024) (nI mn)) (mn + 1)) H := hP
    have hD : va_D A (nbW d a1 a2 a3 li (upd sl ((nb_h w + u) % 1024) (nI mn)) (mn + 1)) := hD
    refine lv_iload_n hx hb dX1_of_82 rfl (lv_at hl 1 rfl) ?_
    refine ls_ast (k := mn) hx hb hK hP hD hS 1 rfl (hmn) (by decide) dX1_of_83 (fun H locs hP hD hS => ?_)
    have hP : va_P (dC, dI) vwCl (nbW d a1 a2 a3 (upd li mn w) (upd sl ((nb_h w + u) % 1024) (nI mn)) (mn + 1)) H := hP
    have hD : va_D A (nbW d a1 a2 a3 (upd li mn w) (upd sl ((nb_h w + u) % 1024) (nI mn)) (mn + 1)) := hD
    refine lv_aload_n hx hb dX1_of_84 rfl (lv_at hl 0 rfl) ?_
    refine va_get (D := (dC, dI)) (ci := 1) (v := .ref a3) (C := RX1) (T := TX1) (N := 3) hx hb hts in_X1 hown hK hP 0 rfl rfl 1 (by decide) (hts _ q24) (fun _ h9 => h9) rfl dX1_of_85 ?_
    refine lv_iload_n hx hb dX1_of_88 rfl (lv_at hl 2 rfl) ?_
    refine ls_ald (k := ((nb_h w + u) % 1024)) (v := nI mn) hx hb hK hP 2 rfl (hlt) (by decide) (pk_us) dX1_of_89 ?_
    have hnw := nb_new hI hmn hu hs hz
    exact W.iret (v := nI mn) hx hb hr (fun t ht hW => ⟨⟨nI mn, (upd li mn w, upd sl ((nb_h w + u) % 1024) (nI mn), mn + 1), rfl, ⟨mn, rfl, hnw.2, Or.inr ⟨rfl, hnw.1, rfl, rfl⟩⟩, by rw [ht]; exact hP, va_K.moved hW.alike hK, hD⟩, hS.F ht⟩) hS.2.2 dX1_of_90
  · refine ls_ald (k := ((nb_h w + u) % 1024)) (v := nI k) hx hb hK hP 2 rfl (hlt) (by decide) (hz) dX1_of_53 ?_
    refine ls_geT (tgt := 84) hx hb (nI_pos' (by omega)) dX1_of_54 (by decide) ?_
    refine lv_aload_n hx hb dX1_of_84 rfl (lv_at hl 0 rfl) ?_
    refine va_get (D := (dC, dI)) (ci := 1) (v := .ref a3) (C := RX1) (T := TX1) (N := 3) hx hb hts in_X1 hown hK hP 0 rfl rfl 1 (by decide) (hts _ q24) (fun _ h9 => h9) rfl dX1_of_85 ?_
    refine lv_iload_n hx hb dX1_of_88 rfl (lv_at hl 2 rfl) ?_
    refine ls_ald (k := ((nb_h w + u) % 1024)) (v := nI k) hx hb hK hP 2 rfl (hlt) (by decide) (hz) dX1_of_89 ?_
    exact W.iret (v := nI k) hx hb hr (fun t ht hW => ⟨⟨nI k, (li, sl, mn), rfl, ⟨k, rfl, hI, Or.inl ⟨hk, hk2, rfl, rfl⟩⟩, by rw [ht]; exact hP, va_K.moved hW.alike hK, hD⟩, hS.F ht⟩) hS.2.2 dX1_of_90
end
section
/-! ===== LeastScript: contracts of clear, <init>, left, right ===== -/
set_option maxHeartbeats 4000000 in
set_option maxRecDepth 100000 in
/-- LeastScript.clear, its loop at the head: i places of last are -1 -/
theorem lc_loop {p : Program} {l : Launch} {e : Env} {R : Room} {s : State} {m0 : MethodId} {args : Array Value} {below : List Frame} {meth : Method} {c : Code} {cells slots : Nat} {Q : State → Prop} {dC : Nat → ClassId} {dI : Nat → Nat → Nat} {d : ClassId} {A : Nat → Prop} {g : Nat → Nat} {li sl le ll be en : Nat → Int32} {mn n m : Nat} (hx : p.tables.exec = Jvm.exec) (hb : c.code = cX0_clear) (hts : ∀ w ∈ lw_all, w.before args s = true) (hown : s.vm.findClass RX0 = some m0.cls) (hK : va_K (dC, dI) vwCl [(d, .int)] s)
    (hend : ∀ (la : Nat → Int32) (H : Heap) (locs : List Loc) (ls : Array Slot), (∀ k, k < 256 → la k = -1) → va_P (dC, dI) vwCl (lsW d g li sl le ll la be en mn n m) H → va_D A (lsW d g li sl le ll la be en mn n m) → va_S A s.heap H locs → W p l e R s m0 args below meth c H locs cells slots Q (F0 m0 39 ls [])) :
    ∀ (z i : Nat) (la : Nat → Int32) (H : Heap) (locs : List Loc) (ls : Array Slot), i ≤ 256 → 257 ≤ i + z → (∀ k, k < i → la k = -1) → va_P (dC, dI) vwCl (lsW d g li sl le ll la be en mn n m) H → va_D A (lsW d g li sl le ll la be en mn n m) → va_S A s.heap H locs → lv_has ls 2 [(0, .ref (g 0)), (1, .int (nI i))] → W p l e R s m0 args below meth c H locs cells slots Q (F0 m0 19 ls []) := by
  intro z
  induction z with
  | zero =>
    intro i la H locs ls h1 h2
    exact absurd h2 (by omega)
  | succ z ih =>
    intro i la H locs ls hi hin hz hP hD hS hl
    refine lv_iload_n hx hb dX0_clear_19 rfl (lv_at hl 1 rfl) ?_
    refine lv_sipush (v := nI 256) hx hb dX0_clear_20 (by decide) ?_
    refine ls_ge (x := i) (y := 256) (tgt := 39) hx hb (by omega) (by omega) dX0_clear_23 (by decide) (fun hc => ?_) (fun hc => ?_)
    · exact hend la H locs ls (fun k hk => hz k (by omega)) hP hD hS
    · refine lv_aload_n hx hb dX0_clear_26 rfl (lv_at hl 0 rfl) ?_
      refine va_get (D := (dC, dI)) (ci := 0) (v := .ref (g 6)) (C := RX0) (T := TX0) (N := 8) hx hb hts in_X0 hown hK hP 0 rfl rfl 3 (by decide) (hts _ q42) (fun _ h9 => h9) rfl dX0_clear_27 ?_
      refine lv_iload_n hx hb dX0_clear_30 rfl (lv_at hl 1 rfl) ?_
      refine lv_iconst (v := (-1)) hx hb dX0_clear_31 (by decide) ?_
      refine ls_ast (k := i) hx hb hK hP hD hS 6 rfl (by omega) (by decide) dX0_clear_32 (fun H locs hP hD hS => ?_)
      have hP : va_P (dC, dI) vwCl (lsW d g li sl le ll (upd la i (-1)) be en mn n m) H := hP
      have hD : va_D A (lsW d g li sl le ll (upd la i (-1)) be en mn n m) := hD
      refine lv_iinc (v := nI (i + 1)) (lv' := [(1, .int (nI (i + 1))), (0, .ref (g 0))]) hx hb dX0_clear_33 hl (k := 1) rfl (ls_inc i) (by decide) rfl (fun ls hl => ?_)
      refine lv_goto (tgt := 19) hx hb dX0_clear_36 (by decide) ?_
      refine ih (i + 1) _ H locs ls (by omega) (by omega) (fun k hk => ?_) hP hD hS (lv_sub hl [1, 0] rfl)
      by_cases ek : k = i
      · rw [ek, pk_us]
      · rw [pk_un ek]
        exact hz k (by omega)
set_option maxHeartbeats 4000000 in
set_option maxRecDepth 100000 in
/-- LeastScript.clear(): no line at all -/
theorem met_clear (l : Launch) (dC : Nat → ClassId) (dI : Nat → Nat → Nat) (d : ClassId) (g : Nat → Nat) (li sl le ll la be en : Nat → Int32) (mn n m : Nat) (sz : Nat) : Met l yX0_clear (ws_ yX0_clear cX0_clear 2 none) ({ frames := 1, cells := 0, slots := 0, locals := 21 }) (cPre dC dI d [.ref (g 0)] sz (lsW d g li sl le ll la be en mn n m)) (va_Qv (fun (u : (Nat → Int32) × (Nat → Int32)) => (∀ k, k < 1024 → u.1 k = -1) ∧ ∀ k, k < 256 → u.2 k = -1) (cB dC dI d (va_A (lsW d g li sl le ll la be en mn n m) sz) (fun u => lsW d g li u.1 le ll u.2 be en 0 0 0)) (va_A (lsW d g li sl le ll la be en mn n m) sz)) 0 0 (va_A (lsW d g li sl le ll la be en mn n m) sz) := by
  refine Met.ofW (cc := cX0_clear) (maxL := 2) (ret := none) (by decide) rfl ?_
  intro p e s m0 args below meth c s₁ B hml hv
  obtain ⟨rfl, hsz, hP, hK, hD0⟩ := hv
  have hx := B.exec
  have hb := B.bytes
  have hr := B.returns
  have hts := atoms_spec (ws := ws_ yX0_clear cX0_clear 2 none) B.pre
  have hts : ∀ w ∈ lw_all, w.before _ s = true := fun w h => hts w (List.mem_cons_of_mem _ h)
  have hown : s.vm.findClass RX0 = some m0.cls := findClass_of_methodNamed B.named
  have hlocks := B.notSynchronized
  subst hsz
  have hD := hD0.self (sz := s.heap.size)
  generalize hAe : va_A (lsW d g li sl le ll la be en mn n m) s.heap.size = A at hD ⊢
  have hA : ∀ q : Nat, s.heap.size ≤ q → A q := fun q h => by rw [← hAe]; exact Or.inr h
  have hS : va_S A s.heap s.heap [] := va_S.rf
  have hP : va_P (dC, dI) vwCl (lsW d g li sl le ll la be en mn n m) s.heap := hP
  have hl := lv_entry ([.ref (g 0)]) (n := 2) (Nat.le_of_ble_eq_true rfl)
  rw [lg_entry_eq]
  generalize (lg_sl ([.ref (g 0)]) ++ List.replicate (2 - (lg_sl ([.ref (g 0)])).length) Slot.unset).toArray = ls at hl ⊢
  have hl : lv_has ls 2 [(0, .ref (g 0))] := hl
  refine lv_aload_n hx hb dX0_clear_0 rfl (lv_at hl 0 rfl) ?_
  refine va_get (D := (dC, dI)) (ci := 0) (v := .ref (g 1)) (C := RX0) (T := TX0) (N := 8) hx hb hts in_X0 hown hK hP 0 rfl rfl 0 (by decide) (hts _ q39) (fun _ h9 => h9) rfl dX0_clear_1 ?_
  have hPc := hP.sub (ws' := (nbW d (g 1) (g 2) (g 3) li sl mn)) [1, 2, 3] rfl
  have hDc := hD.sub (ws' := (nbW d (g 1) (g 2) (g 3) li sl mn)) [1, 2, 3] (by decide) rfl
  have hFc := va_free (wc := (nbW d (g 1) (g 2) (g 3) li sl mn)) hD hS hA [1, 2, 3] rfl
  refine va_callv (va_runV (As := []) (rest := []) ⟨hx, hb, hml, hown, hts⟩ (met_nclear l dC dI d (g 1) (g 2) (g 3) li sl mn s.heap.size) (cwV 0 hts (lw_V q38 q20 q21 q2 q22) rfl rfl rfl (by decide +kernel) ⟨Nat.le_of_ble_eq_true rfl, Nat.le_of_ble_eq_true rfl⟩) ⟨ls_blind, va_recv hK hPc (ci := 1) (q0 := 0) rfl rfl, ls_pre hPc hK hDc⟩ rfl rfl hl.1 rfl (lv_room (Nat.le_of_ble_eq_true rfl)) dX0_clear_4 ⟨Nat.le_of_ble_eq_true rfl, Nat.le_of_ble_eq_true rfl⟩) hS (fun q _ h => hFc q h) hFc (fun u t H1 locs ht hvm hw hB hz1 hk1 hS => ?_)
  obtain ⟨hP1, hK1, hD1⟩ := hB
  rw [ht] at hP1
  obtain ⟨hP, hD⟩ := va_join (wr := [(g 0, .inr (0, [.ref (g 1), .ref (g 4), .ref (g 5), .ref (g 6), .ref (g 7), .int (nI n), .int (nI m), .ref (g 8)])), (g 4, .inl (d, 128, .inl le)), (g 5, .inl (d, 128, .inl ll)), (g 6, .inl (d, 256, .inl la)), (g 7, .inl (d, 128, .inl be)), (g 8, .inl (d, 128, .inl en))]) (w1 := (nbW d (g 1) (g 2) (g 3) li u 0)) hP hD [1, 2, 3] [0, 4, 5, 6, 7, 8] rfl rfl (by decide) (by decide) hk1 hFc hP1 hD1
  generalize H1 = H at hP hS ⊢
  have hP : va_P (dC, dI) vwCl (lsW d g li u le ll la be en 0 n m) H := hP.sub [0, 6, 7, 8, 1, 2, 3, 4, 5] rfl
  have hD : va_D A (lsW d g li u le ll la be en 0 n m) := hD.sub [0, 6, 7, 8, 1, 2, 3, 4, 5] (by decide) rfl
  refine lv_aload_n hx hb dX0_clear_7 rfl (lv_at hl 0 rfl) ?_
  refine lv_iconst (v := nI 0) hx hb dX0_clear_8 (by decide) ?_
  refine va_put (D := (dC, dI)) (ci := 0) (v := .int (nI 0)) (ty := .int) (C := RX0) (T := TX0) (N := 8) hx hb hts in_X0 tyX0 tyX0_ok nmX0 hown hK hP hD hS 0 rfl rfl 5 (by decide) (hts _ q44) (fun _ h9 => h9) rfl (by decide +kernel) rfl rfl (Nat.le_of_ble_eq_true rfl) dX0_clear_9 (fun H locs hP hD hS => ?_)
  have hP : va_P (dC, dI) vwCl (lsW d g li u le ll la be en 0 0 m) H := hP
  have hD : va_D A (lsW d g li u le ll la be en 0 0 m) := hD
  refine lv_aload_n hx hb dX0_clear_12 rfl (lv_at hl 0 rfl) ?_
  refine lv_iconst (v := nI 0) hx hb dX0_clear_13 (by decide) ?_
  refine va_put (D := (dC, dI)) (ci := 0) (v := .int (nI 0)) (ty := .int) (C := RX0) (T := TX0) (N := 8) hx hb hts in_X0 tyX0 tyX0_ok nmX0 hown hK hP hD hS 0 rfl rfl 6 (by decide) (hts _ q45) (fun _ h9 => h9) rfl (by decide +kernel) rfl rfl (Nat.le_of_ble_eq_true rfl) dX0_clear_14 (fun H locs hP hD hS => ?_)
  have hP : va_P (dC, dI) vwCl (lsW d g li u le ll la be en 0 0 0) H := hP
  have hD : va_D A (lsW d g li u le ll la be en 0 0 0) := hD
  refine lv_iconst (v := nI 0) hx hb dX0_clear_17 (by decide) ?_
  refine lv_istore_n (lv' := [(1, .int (nI 0)), (0, .ref (g 0))]) hx hb dX0_clear_18 rfl hl (by decide) rfl (fun ls hl => ?_)
  refine lc_loop hx hb hts hown hK (fun la H locs ls hz hP hD hS => ?_) 257 0 la H locs ls (by omega) (by omega) (fun k hk => absurd hk (Nat.not_lt_zero k)) hP hD hS (lv_sub hl [1, 0] rfl)
  exact W.vret hx hb hr (fun t ht hW => ⟨⟨(u, la), rfl, ⟨hw, hz⟩, by rw [ht]; exact hP, va_K.moved hW.alike hK, hD⟩, hS.F ht⟩) hS.2.2 dX0_clear_39
/-- nine addresses -/
abbrev g9 (c0 c1 c2 c3 c4 c5 c6 c7 c8 : Nat) : Nat → Nat := fun k => match k with
  | 0 => c0
  | 1 => c1
  | 2 => c2
  | 3 => c3
  | 4 => c4
  | 5 => c5
  | 6 => c6
  | 7 => c7
  | _ => c8
set_option maxHeartbeats 4000000 in
set_option maxRecDepth 100000 in
/-- LeastScript(): no line at all -/
theorem met_init (l : Launch) (dC : Nat → ClassId) (dI : Nat → Nat → Nat) (d : ClassId) (h0 : Nat) (sz : Nat) : Met l yX0_init (ws_ yX0_init cX0_init 1 none) ({ frames := 2, cells := 8, slots := 2051, locals := 42 }) (cPre dC dI d [.ref h0] sz ([(h0, .inr (0, [.null, .null, .null, .null, .null, .int (nI 0), .int (nI 0), .null]))])) (va_Qv (fun (u : (Nat → Nat) × (Nat → Int32) × (Nat → Int32)) => u.1 0 = h0 ∧ (∀ k, k < 1024 → u.2.1 k = -1) ∧ ∀ k, k < 256 → u.2.2 k = -1) (cB dC dI d (va_A ([(h0, .inr (0, [.null, .null, .null, .null, .null, .int (nI 0), .int (nI 0), .null]))]) sz) (fun u => lsW d u.1 (fun _ => 0) u.2.1 (fun _ => 0) (fun _ => 0) u.2.2 (fun _ => 0) (fun _ => 0) 0 0 0)) (va_A ([(h0, .inr (0, [.null, .null, .null, .null, .null, .int (nI 0), .int (nI 0), .null]))]) sz)) 8 2051 (va_A ([(h0, .inr (0, [.null, .null, .null, .null, .null, .int (nI 0), .int (nI 0), .null]))]) sz) := by
  refine Met.ofW (cc := cX0_init) (maxL := 1) (ret := none) (by decide) rfl ?_
  intro p e s m0 args below meth c s₁ B hml hv
  obtain ⟨rfl, hsz, hP, hK, hD0⟩ := hv
  have hx := B.exec
  have hb := B.bytes
  have hr := B.returns
  have hts := atoms_spec (ws := ws_ yX0_init cX0_init 1 none) B.pre
  have hts : ∀ w ∈ lw_all, w.before _ s = true := fun w h => hts w (List.mem_cons_of_mem _ h)
  have hown : s.vm.findClass RX0 = some m0.cls := findClass_of_methodNamed B.named
  have hlocks := B.notSynchronized
  have hin : meth.name = "<init>" := (name_of_methodNamed B.named B.method).1
  subst hsz
  have hD := hD0.self (sz := s.heap.size)
  generalize hAe : va_A ([(h0, .inr (0, [.null, .null, .null, .null, .null, .int (nI 0), .int (nI 0), .null]))]) s.heap.size = A at hD ⊢
  have hA : ∀ q : Nat, s.heap.size ≤ q → A q := fun q h => by rw [← hAe]; exact Or.inr h
  have hS : va_S A s.heap s.heap [] := va_S.rf
  have hP : va_P (dC, dI) vwCl ([(h0, .inr (0, [.null, .null, .null, .null, .null, .int (nI 0), .int (nI 0), .null]))]) s.heap := hP
  have hl := lv_entry ([.ref h0]) (n := 1) (Nat.le_of_ble_eq_true rfl)
  rw [lg_entry_eq]
  generalize (lg_sl ([.ref h0]) ++ List.replicate (1 - (lg_sl ([.ref h0])).length) Slot.unset).toArray = ls at hl ⊢
  have hl : lv_has ls 1 [(0, .ref h0)] := hl
  refine lv_aload_n hx hb dX0_init_0 rfl (lv_at hl 0 rfl) ?_
  refine W.objInit hx hb hown (hts _ q10) (hts _ q11) (hts _ q12) rfl (by rw [hml]; exact hl.1) rfl dX0_init_1 (Nat.le_of_ble_eq_true rfl) (Nat.le_of_ble_eq_true rfl) ?_
  refine W.eq (g2 := F0 m0 4 ls []) rfl ?_
  refine lv_aload_n hx hb dX0_init_4 rfl (lv_at hl 0 rfl) ?_
  refine va_new (ci := 1) (fs := [.null, .null, .int (nI 0)]) (C := RX1) (T := TX1) (N := 3) hx hb hts in_X1 tyX1 tyX1_ok hown (hts _ q13) (hts _ q14) (hts _ q2) hK hP hD hS hA rfl (fun j hj => by rcases (show j = 0 ∨ j = 1 ∨ j = 2 by omega) with rfl | rfl | rfl <;> rfl) (Nat.le_of_ble_eq_true rfl) (Nat.le_of_ble_eq_true rfl) dX0_init_5 (fun b1 H hP hD hS => ?_)
  have hP : va_P (dC, dI) vwCl ([(h0, .inr (0, [.null, .null, .null, .null, .null, .int (nI 0), .int (nI 0), .null])), (b1, .inr (1, [.null, .null, .int (nI 0)]))]) H := hP
  have hD : va_D A ([(h0, .inr (0, [.null, .null, .null, .null, .null, .int (nI 0), .int (nI 0), .null])), (b1, .inr (1, [.null, .null, .int (nI 0)]))]) := hD
  refine lv_dup hx hb dX0_init_8 rfl ?_
  have hPc := hP.sub (ws' := [(b1, .inr (1, [.null, .null, .int (nI 0)]))]) [1] rfl
  have hDc := hD.sub (ws' := [(b1, .inr (1, [.null, .null, .int (nI 0)]))]) [1] (by decide) rfl
  have hFc := va_free (wc := [(b1, .inr (1, [.null, .null, .int (nI 0)]))]) hD hS hA [1] rfl
  refine va_callv (va_runI (As := []) (rest := [.ref b1, .ref h0]) ⟨hx, hb, hml, hown, hts⟩ (met_ninit l dC dI d b1 H.size) (cwI 0 hts (lw_meth q17) rfl rfl rfl (hts _ q2) (hts _ q15) (hts _ q16) rfl (by decide +kernel) ⟨Nat.le_of_ble_eq_true rfl, Nat.le_of_ble_eq_true rfl⟩) ⟨ls_blind, ls_pre hPc hK hDc⟩ rfl rfl hl.1 rfl (lv_room (Nat.le_of_ble_eq_true rfl)) dX0_init_9 ⟨Nat.le_of_ble_eq_true rfl, Nat.le_of_ble_eq_true rfl⟩) hS (fun q _ h => hFc q h) hFc (fun u t H1 locs ht hvm hw hB hz1 hk1 hS => ?_)
  obtain ⟨b2, b3, sl⟩ := u
  obtain ⟨hP1, hK1, hD1⟩ := hB
  rw [ht] at hP1
  obtain ⟨hP, hD⟩ := va_join (wr := [(h0, .inr (0, [.null, .null, .null, .null, .null, .int (nI 0), .int (nI 0), .null]))]) (w1 := (nbW d b1 b2 b3 (fun _ => 0) sl 0)) hP hD [1] [0] rfl rfl (by decide) (by decide) hk1 hFc hP1 hD1
  generalize H1 = H at hP hS ⊢
  have hP : va_P (dC, dI) vwCl ([(h0, .inr (0, [.null, .null, .null, .null, .null, .int (nI 0), .int (nI 0), .null])), (b1, .inr (1, [.ref b2, .ref b3, .int (nI 0)])), (b2, .inl (d, 256, .inl (fun _ => 0))), (b3, .inl (d, 1024, .inl sl))]) H := hP.sub [0, 1, 2, 3] rfl
  have hD : va_D A ([(h0, .inr (0, [.null, .null, .null, .null, .null, .int (nI 0), .int (nI 0), .null])), (b1, .inr (1, [.ref b2, .ref b3, .int (nI 0)])), (b2, .inl (d, 256, .inl (fun _ => 0))), (b3, .inl (d, 1024, .inl sl))]) := hD.sub [0, 1, 2, 3] (by decide) rfl
  refine va_putF (D := (dC, dI)) (ci := 0) (v := .ref b1) (ty := (.object "LeastScript$Numbers")) (C := RX0) (T := TX0) (N := 8) hx hb hts in_X0 tyX0 tyX0_ok nmX0 hown hK hP hD hS 0 rfl rfl 0 (by decide) (hts _ q39) (fun _ h9 => h9) rfl hin rfl (by decide +kernel) rfl rfl (Nat.le_of_ble_eq_true rfl) dX0_init_12 (fun H locs hP hD hS => ?_)
  have hP : va_P (dC, dI) vwCl ([(h0, .inr (0, [.ref b1, .null, .null, .null, .null, .int (nI 0), .int (nI 0), .null])), (b1, .inr (1, [.ref b2, .ref b3, .int (nI 0)])), (b2, .inl (d, 256, .inl (fun _ => 0))), (b3, .inl (d, 1024, .inl sl))]) H := hP
  have hD : va_D A ([(h0, .inr (0, [.ref b1, .null, .null, .null, .null, .int (nI 0), .int (nI 0), .null])), (b1, .inr (1, [.ref b2, .ref b3, .int (nI 0)])), (b2, .inl (d, 256, .inl (fun _ => 0))), (b3, .inl (d, 1024, .inl sl))]) := hD
  refine lv_aload_n hx hb dX0_init_15 rfl (lv_at hl 0 rfl) ?_
  refine lv_sipush (v := nI 128) hx hb dX0_init_16 (by decide) ?_
  refine ls_newa (N := 128) hx hb (hts _ q33) hK hP hD hS hA (by decide) (Nat.le_of_ble_eq_true rfl) (Nat.le_of_ble_eq_true rfl) dX0_init_19 (fun b4 H hP hD hS => ?_)
  have hP : va_P (dC, dI) vwCl ([(h0, .inr (0, [.ref b1, .null, .null, .null, .null, .int (nI 0), .int (nI 0), .null])), (b1, .inr (1, [.ref b2, .ref b3, .int (nI 0)])), (b2, .inl (d, 256, .inl (fun _ => 0))), (b3, .inl (d, 1024, .inl sl)), (b4, .inl (d, 128, .inl (fun _ => 0)))]) H := hP
  have hD : va_D A ([(h0, .inr (0, [.ref b1, .null, .null, .null, .null, .int (nI 0), .int (nI 0), .null])), (b1, .inr (1, [.ref b2, .ref b3, .int (nI 0)])), (b2, .inl (d, 256, .inl (fun _ => 0))), (b3, .inl (d, 1024, .inl sl)), (b4, .inl (d, 128, .inl (fun _ => 0)))]) := hD
  refine va_putF (D := (dC, dI)) (ci := 0) (v := .ref b4) (ty := (.array .int)) (C := RX0) (T := TX0) (N := 8) hx hb hts in_X0 tyX0 tyX0_ok nmX0 hown hK hP hD hS 0 rfl rfl 1 (by decide) (hts _ q40) (fun _ h9 => h9) rfl hin rfl (by decide +kernel) rfl rfl (Nat.le_of_ble_eq_true rfl) dX0_init_21 (fun H locs hP hD hS => ?_)
  have hP : va_P (dC, dI) vwCl ([(h0, .inr (0, [.ref b1, .ref b4, .null, .null, .null, .int (nI 0), .int (nI 0), .null])), (b1, .inr (1, [.ref b2, .ref b3, .int (nI 0)])), (b2, .inl (d, 256, .inl (fun _ => 0))), (b3, .inl (d, 1024, .inl sl)), (b4, .inl (d, 128, .inl (fun _ => 0)))]) H := hP
  have hD : va_D A ([(h0, .inr (0, [.ref b1, .ref b4, .null, .null, .null, .int (nI 0), .int (nI 0), .null])), (b1, .inr (1, [.ref b2, .ref b3, .int (nI 0)])), (b2, .inl (d, 256, .inl (fun _ => 0))), (b3, .inl (d, 1024, .inl sl)), (b4, .inl (d, 128, .inl (fun _ => 0)))]) := hD
  refine lv_aload_n hx hb dX0_init_24 rfl (lv_at hl 0 rfl) ?_
  refine lv_sipush (v := nI 128) hx hb dX0_init_25 (by decide) ?_
  refine ls_newa (N := 128) hx hb (hts _ q33) hK hP hD hS hA (by decide) (Nat.le_of_ble_eq_true rfl) (Nat.le_of_ble_eq_true rfl) dX0_init_28 (fun b5 H hP hD hS => ?_)
  have hP : va_P (dC, dI) vwCl ([(h0, .inr (0, [.ref b1, .ref b4, .null, .null, .null, .int (nI 0), .int (nI 0), .null])), (b1, .inr (1, [.ref b2, .ref b3, .int (nI 0)])), (b2, .inl (d, 256, .inl (fun _ => 0))), (b3, .inl (d, 1024, .inl sl)), (b4, .inl (d, 128, .inl (fun _ => 0))), (b5, .inl (d, 128, .inl (fun _ => 0)))]) H := hP
  have hD : va_D A ([(h0, .inr (0, [.ref b1, .ref b4, .null, .null, .null, .int (nI 0), .int (nI 0), .null])), (b1, .inr (1, [.ref b2, .ref b3, .int (nI 0)])), (b2, .inl (d, 256, .inl (fun _ => 0))), (b3, .inl (d, 1024, .inl sl)), (b4, .inl (d, 128, .inl (fun _ => 0))), (b5, .inl (d, 128, .inl (fun _ => 0)))]) := hD
  refine va_putF (D := (dC, dI)) (ci := 0) (v := .ref b5) (ty := (.array .int)) (C := RX0) (T := TX0) (N := 8) hx hb hts in_X0 tyX0 tyX0_ok nmX0 hown hK hP hD hS 0 rfl rfl 2 (by decide) (hts _ q41) (fun _ h9 => h9) rfl hin rfl (by decide +kernel) rfl rfl (Nat.le_of_ble_eq_true rfl) dX0_init_30 (fun H locs hP hD hS => ?_)
  have hP : va_P (dC, dI) vwCl ([(h0, .inr (0, [.ref b1, .ref b4, .ref b5, .null, .null, .int (nI 0), .int (nI 0), .null])), (b1, .inr (1, [.ref b2, .ref b3, .int (nI 0)])), (b2, .inl (d, 256, .inl (fun _ => 0))), (b3, .inl (d, 1024, .inl sl)), (b4, .inl (d, 128, .inl (fun _ => 0))), (b5, .inl (d, 128, .inl (fun _ => 0)))]) H := hP
  have hD : va_D A ([(h0, .inr (0, [.ref b1, .ref b4, .ref b5, .null, .null, .int (nI 0), .int (nI 0), .null])), (b1, .inr (1, [.ref b2, .ref b3, .int (nI 0)])), (b2, .inl (d, 256, .inl (fun _ => 0))), (b3, .inl (d, 1024, .inl sl)), (b4, .inl (d, 128, .inl (fun _ => 0))), (b5, .inl (d, 128, .inl (fun _ => 0)))]) := hD
  refine lv_aload_n hx hb dX0_init_33 rfl (lv_at hl 0 rfl) ?_
  refine lv_sipush (v := nI 256) hx hb dX0_init_34 (by decide) ?_
  refine ls_newa (N := 256) hx hb (hts _ q33) hK hP hD hS hA (by decide) (Nat.le_of_ble_eq_true rfl) (Nat.le_of_ble_eq_true rfl) dX0_init_37 (fun b6 H hP hD hS => ?_)
  have hP : va_P (dC, dI) vwCl ([(h0, .inr (0, [.ref b1, .ref b4, .ref b5, .null, .null, .int (nI 0), .int (nI 0), .null])), (b1, .inr (1, [.ref b2, .ref b3, .int (nI 0)])), (b2, .inl (d, 256, .inl (fun _ => 0))), (b3, .inl (d, 1024, .inl sl)), (b4, .inl (d, 128, .inl (fun _ => 0))), (b5, .inl (d, 128, .inl (fun _ => 0))), (b6, .inl (d, 256, .inl (fun _ => 0)))]) H := hP
  have hD : va_D A ([(h0, .inr (0, [.ref b1, .ref b4, .ref b5, .null, .null, .int (nI 0), .int (nI 0), .null])), (b1, .inr (1, [.ref b2, .ref b3, .int (nI 0)])), (b2, .inl (d, 256, .inl (fun _ => 0))), (b3, .inl (d, 1024, .inl sl)), (b4, .inl (d, 128, .inl (fun _ => 0))), (b5, .inl (d, 128, .inl (fun _ => 0))), (b6, .inl (d, 256, .inl (fun _ => 0)))]) := hD
  refine va_putF (D := (dC, dI)) (ci := 0) (v := .ref b6) (ty := (.array .int)) (C := RX0) (T := TX0) (N := 8) hx hb hts in_X0 tyX0 tyX0_ok nmX0 hown hK hP hD hS 0 rfl rfl 3 (by decide) (hts _ q42) (fun _ h9 => h9) rfl hin rfl (by decide +kernel) rfl rfl (Nat.le_of_ble_eq_true rfl) dX0_init_39 (fun H locs hP hD hS => ?_)
  have hP : va_P (dC, dI) vwCl ([(h0, .inr (0, [.ref b1, .ref b4, .ref b5, .ref b6, .null, .int (nI 0), .int (nI 0), .null])), (b1, .inr (1, [.ref b2, .ref b3, .int (nI 0)])), (b2, .inl (d, 256, .inl (fun _ => 0))), (b3, .inl (d, 1024, .inl sl)), (b4, .inl (d, 128, .inl (fun _ => 0))), (b5, .inl (d, 128, .inl (fun _ => 0))), (b6, .inl (d, 256, .inl (fun _ => 0)))]) H := hP
  have hD : va_D A ([(h0, .inr (0, [.ref b1, .ref b4, .ref b5, .ref b6, .null, .int (nI 0), .int (nI 0), .null])), (b1, .inr (1, [.ref b2, .ref b3, .int (nI 0)])), (b2, .inl (d, 256, .inl (fun _ => 0))), (b3, .inl (d, 1024, .inl sl)), (b4, .inl (d, 128, .inl (fun _ => 0))), (b5, .inl (d, 128, .inl (fun _ => 0))), (b6, .inl (d, 256, .inl (fun _ => 0)))]) := hD
  refine lv_aload_n hx hb dX0_init_42 rfl (lv_at hl 0 rfl) ?_
  refine lv_sipush (v := nI 128) hx hb dX0_init_43 (by decide) ?_
  refine ls_newa (N := 128) hx hb (hts _ q33) hK hP hD hS hA (by decide) (Nat.le_of_ble_eq_true rfl) (Nat.le_of_ble_eq_true rfl) dX0_init_46 (fun b7 H hP hD hS => ?_)
  have hP : va_P (dC, dI) vwCl ([(h0, .inr (0, [.ref b1, .ref b4, .ref b5, .ref b6, .null, .int (nI 0), .int (nI 0), .null])), (b1, .inr (1, [.ref b2, .ref b3, .int (nI 0)])), (b2, .inl (d, 256, .inl (fun _ => 0))), (b3, .inl (d, 1024, .inl sl)), (b4, .inl (d, 128, .inl (fun _ => 0))), (b5, .inl (d, 128, .inl (fun _ => 0))), (b6, .inl (d, 256, .inl (fun _ => 0))), (b7, .inl (d, 128, .inl (fun _ => 0)))]) H := hP
  have hD : va_D A ([(h0, .inr (0, [.ref b1, .ref b4, .ref b5, .ref b6, .null, .int (nI 0), .int (nI 0), .null])), (b1, .inr (1, [.ref b2, .ref b3, .int (nI 0)])), (b2, .inl (d, 256, .inl (fun _ => 0))), (b3, .inl (d, 1024, .inl sl)), (b4, .inl (d, 128, .inl (fun _ => 0))), (b5, .inl (d, 128, .inl (fun _ => 0))), (b6, .inl (d, 256, .inl (fun _ => 0))), (b7, .inl (d, 128, .inl (fun _ => 0)))]) := hD
  refine va_putF (D := (dC, dI)) (ci := 0) (v := .ref b7) (ty := (.array .int)) (C := RX0) (T := TX0) (N := 8) hx hb hts in_X0 tyX0 tyX0_ok nmX0 hown hK hP hD hS 0 rfl rfl 4 (by decide) (hts _ q43) (fun _ h9 => h9) rfl hin rfl (by decide +kernel) rfl rfl (Nat.le_of_ble_eq_true rfl) dX0_init_48 (fun H locs hP hD hS => ?_)
  have hP : va_P (dC, dI) vwCl ([(h0, .inr (0, [.ref b1, .ref b4, .ref b5, .ref b6, .ref b7, .int (nI 0), .int (nI 0), .null])), (b1, .inr (1, [.ref b2, .ref b3, .int (nI 0)])), (b2, .inl (d, 256, .inl (fun _ => 0))), (b3, .inl (d, 1024, .inl sl)), (b4, .inl (d, 128, .inl (fun _ => 0))), (b5, .inl (d, 128, .inl (fun _ => 0))), (b6, .inl (d, 256, .inl (fun _ => 0))), (b7, .inl (d, 128, .inl (fun _ => 0)))]) H := hP
  have hD : va_D A ([(h0, .inr (0, [.ref b1, .ref b4, .ref b5, .ref b6, .ref b7, .int (nI 0), .int (nI 0), .null])), (b1, .inr (1, [.ref b2, .ref b3, .int (nI 0)])), (b2, .inl (d, 256, .inl (fun _ => 0))), (b3, .inl (d, 1024, .inl sl)), (b4, .inl (d, 128, .inl (fun _ => 0))), (b5, .inl (d, 128, .inl (fun _ => 0))), (b6, .inl (d, 256, .inl (fun _ => 0))), (b7, .inl (d, 128, .inl (fun _ => 0)))]) := hD
  refine lv_aload_n hx hb dX0_init_51 rfl (lv_at hl 0 rfl) ?_
  refine lv_sipush (v := nI 128) hx hb dX0_init_52 (by decide) ?_
  refine ls_newa (N := 128) hx hb (hts _ q33) hK hP hD hS hA (by decide) (Nat.le_of_ble_eq_true rfl) (Nat.le_of_ble_eq_true rfl) dX0_init_55 (fun b8 H hP hD hS => ?_)
  have hP : va_P (dC, dI) vwCl ([(h0, .inr (0, [.ref b1, .ref b4, .ref b5, .ref b6, .ref b7, .int (nI 0), .int (nI 0), .null])), (b1, .inr (1, [.ref b2, .ref b3, .int (nI 0)])), (b2, .inl (d, 256, .inl (fun _ => 0))), (b3, .inl (d, 1024, .inl sl)), (b4, .inl (d, 128, .inl (fun _ => 0))), (b5, .inl (d, 128, .inl (fun _ => 0))), (b6, .inl (d, 256, .inl (fun _ => 0))), (b7, .inl (d, 128, .inl (fun _ => 0))), (b8, .inl (d, 128, .inl (fun _ => 0)))]) H := hP
  have hD : va_D A ([(h0, .inr (0, [.ref b1, .ref b4, .ref b5, .ref b6, .ref b7, .int (nI 0), .int (nI 0), .null])), (b1, .inr (1, [.ref b2, .ref b3, .int (nI 0)])), (b2, .inl (d, 256, .inl (fun _ => 0))), (b3, .inl (d, 1024, .inl sl)), (b4, .inl (d, 128, .inl (fun _ => 0))), (b5, .inl (d, 128, .inl (fun _ => 0))), (b6, .inl (d, 256, .inl (fun _ => 0))), (b7, .inl (d, 128, .inl (fun _ => 0))), (b8, .inl (d, 128, .inl (fun _ => 0)))]) := hD
  refine va_putF (D := (dC, dI)) (ci := 0) (v := .ref b8) (ty := (.array .int)) (C := RX0) (T := TX0) (N := 8) hx hb hts in_X0 tyX0 tyX0_ok nmX0 hown hK hP hD hS 0 rfl rfl 7 (by decide) (hts _ q46) (fun _ h9 => h9) rfl hin rfl (by decide +kernel) rfl rfl (Nat.le_of_ble_eq_true rfl) dX0_init_57 (fun H locs hP hD hS => ?_)
  have hP : va_P (dC, dI) vwCl ([(h0, .inr (0, [.ref b1, .ref b4, .ref b5, .ref b6, .ref b7, .int (nI 0), .int (nI 0), .ref b8])), (b1, .inr (1, [.ref b2, .ref b3, .int (nI 0)])), (b2, .inl (d, 256, .inl (fun _ => 0))), (b3, .inl (d, 1024, .inl sl)), (b4, .inl (d, 128, .inl (fun _ => 0))), (b5, .inl (d, 128, .inl (fun _ => 0))), (b6, .inl (d, 256, .inl (fun _ => 0))), (b7, .inl (d, 128, .inl (fun _ => 0))), (b8, .inl (d, 128, .inl (fun _ => 0)))]) H := hP
  have hD : va_D A ([(h0, .inr (0, [.ref b1, .ref b4, .ref b5, .ref b6, .ref b7, .int (nI 0), .int (nI 0), .ref b8])), (b1, .inr (1, [.ref b2, .ref b3, .int (nI 0)])), (b2, .inl (d, 256, .inl (fun _ => 0))), (b3, .inl (d, 1024, .inl sl)), (b4, .inl (d, 128, .inl (fun _ => 0))), (b5, .inl (d, 128, .inl (fun _ => 0))), (b6, .inl (d, 256, .inl (fun _ => 0))), (b7, .inl (d, 128, .inl (fun _ => 0))), (b8, .inl (d, 128, .inl (fun _ => 0)))]) := hD
  refine lv_aload_n hx hb dX0_init_60 rfl (lv_at hl 0 rfl) ?_
  have hP : va_P (dC, dI) vwCl (lsW d (g9 h0 b1 b2 b3 b4 b5 b6 b7 b8) (fun _ => 0) sl (fun _ => 0) (fun _ => 0) (fun _ => 0) (fun _ => 0) (fun _ => 0) 0 0 0) H := hP
  have hD : va_D A (lsW d (g9 h0 b1 b2 b3 b4 b5 b6 b7 b8) (fun _ => 0) sl (fun _ => 0) (fun _ => 0) (fun _ => 0) (fun _ => 0) (fun _ => 0) 0 0 0) := hD
  have hPc := hP.sub (ws' := (lsW d (g9 h0 b1 b2 b3 b4 b5 b6 b7 b8) (fun _ => 0) sl (fun _ => 0) (fun _ => 0) (fun _ => 0) (fun _ => 0) (fun _ => 0) 0 0 0)) [0, 1, 2, 3, 4, 5, 6, 7, 8] rfl
  have hDc := hD.sub (ws' := (lsW d (g9 h0 b1 b2 b3 b4 b5 b6 b7 b8) (fun _ => 0) sl (fun _ => 0) (fun _ => 0) (fun _ => 0) (fun _ => 0) (fun _ => 0) 0 0 0)) [0, 1, 2, 3, 4, 5, 6, 7, 8] (by decide) rfl
  have hFc := va_free (wc := (lsW d (g9 h0 b1 b2 b3 b4 b5 b6 b7 b8) (fun _ => 0) sl (fun _ => 0) (fun _ => 0) (fun _ => 0) (fun _ => 0) (fun _ => 0) 0 0 0)) hD hS hA [0, 1, 2, 3, 4, 5, 6, 7, 8] rfl
  refine va_callv (va_runV (As := []) (rest := []) ⟨hx, hb, hml, hown, hts⟩ (met_clear l dC dI d (g9 h0 b1 b2 b3 b4 b5 b6 b7 b8) (fun _ => 0) sl (fun _ => 0) (fun _ => 0) (fun _ => 0) (fun _ => 0) (fun _ => 0) 0 0 0 H.size) (cwV 0 hts (lw_V q34 q35 q36 q1 q37) rfl rfl rfl (by decide +kernel) ⟨Nat.le_of_ble_eq_true rfl, Nat.le_of_ble_eq_true rfl⟩) ⟨ls_blind, va_recv hK hPc (ci := 0) (q0 := 0) rfl rfl, ls_pre hPc hK hDc⟩ rfl rfl hl.1 rfl (lv_room (Nat.le_of_ble_eq_true rfl)) dX0_init_61 ⟨Nat.le_of_ble_eq_true rfl, Nat.le_of_ble_eq_true rfl⟩) hS (fun q _ h => hFc q h) hFc (fun u t H1 locs ht hvm hw hB hz1 hk1 hS => ?_)
  obtain ⟨hP1, hK1, hD1⟩ := hB
  rw [ht] at hP1
  obtain ⟨hP, hD⟩ := va_join (wr := []) (w1 := (lsW d (g9 h0 b1 b2 b3 b4 b5 b6 b7 b8) (fun _ => 0) u.1 (fun _ => 0) (fun _ => 0) u.2 (fun _ => 0) (fun _ => 0) 0 0 0)) hP hD [0, 1, 2, 3, 4, 5, 6, 7, 8] [] rfl rfl (by decide) (by decide) hk1 hFc hP1 hD1
  generalize H1 = H at hP hS ⊢
  have hP : va_P (dC, dI) vwCl (lsW d (g9 h0 b1 b2 b3 b4 b5 b6 b7 b8) (fun _ => 0) u.1 (fun _ => 0) (fun _ => 0) u.2 (fun _ => 0) (fun _ => 0) 0 0 0) H := hP.sub [0, 1, 2, 3, 4, 5, 6, 7, 8] rfl
  have hD : va_D A (lsW d (g9 h0 b1 b2 b3 b4 b5 b6 b7 b8) (fun _ => 0) u.1 (fun _ => 0) (fun _ => 0) u.2 (fun _ => 0) (fun _ => 0) 0 0 0) := hD.sub [0, 1, 2, 3, 4, 5, 6, 7, 8] (by decide) rfl
  refine W.widen (k := 8) (n := 2051) (Nat.le_of_ble_eq_true rfl) (Nat.le_of_ble_eq_true rfl) ?_
  exact W.vret hx hb hr (fun t ht hW => ⟨⟨((g9 h0 b1 b2 b3 b4 b5 b6 b7 b8), u.1, u.2), rfl, ⟨rfl, hw⟩, by rw [ht]; exact hP, va_K.moved hW.alike hK, hD⟩, hS.F ht⟩) hS.2.2 dX0_init_64
set_option maxHeartbeats 4000000 in
set_option maxRecDepth 100000 in
/-- LeastScript.left(w): a line more on the left, if there is room -/
theorem met_left (l : Launch) (dC : Nat → ClassId) (dI : Nat → Nat → Nat) (d : ClassId) (g : Nat → Nat) (li sl le ll la be en : Nat → Int32) (mn n m : Nat) (a b : Nat → Int32) (w : Int32) (sz : Nat) (hI : ls_I a n b m li sl mn le ll la be) : Met l yX0_left (ws_ yX0_left cX0_left 2 (some .boolean)) ({ frames := 1, cells := 0, slots := 0, locals := 22 }) (cPre dC dI d [.ref (g 0), .int w] sz (lsW d g li sl le ll la be en mn n m)) (va_Qi (fun (r : Int32) (u : (Nat → Int32) × (Nat → Int32) × (Nat → Int32) × (Nat → Int32) × Nat × Nat) => (n = 128 ∧ r = 0 ∧ u.2.2.2.2.2 = n ∧ ls_I a n b m u.1 u.2.1 u.2.2.2.2.1 u.2.2.1 u.2.2.2.1 la be) ∨ (n < 128 ∧ r = 1 ∧ u.2.2.2.2.2 = n + 1 ∧ ls_I (upd a n w) (n + 1) b m u.1 u.2.1 u.2.2.2.2.1 u.2.2.1 u.2.2.2.1 la be)) (cB dC dI d (va_A (lsW d g li sl le ll la be en mn n m) sz) (fun u => lsW d g u.1 u.2.1 u.2.2.1 u.2.2.2.1 la be en u.2.2.2.2.1 u.2.2.2.2.2 m)) (va_A (lsW d g li sl le ll la be en mn n m) sz)) 0 0 (va_A (lsW d g li sl le ll la be en mn n m) sz) := by
  refine Met.ofW (cc := cX0_left) (maxL := 2) (ret := (some .boolean)) (by decide) rfl ?_
  intro p e s m0 args below meth c s₁ B hml hv
  obtain ⟨rfl, hsz, hP, hK, hD0⟩ := hv
  have hx := B.exec
  have hb := B.bytes
  have hr := B.returns
  have hts := atoms_spec (ws := ws_ yX0_left cX0_left 2 (some .boolean)) B.pre
  have hts : ∀ w ∈ lw_all, w.before _ s = true := fun w h => hts w (List.mem_cons_of_mem _ h)
  have hown : s.vm.findClass RX0 = some m0.cls := findClass_of_methodNamed B.named
  have hlocks := B.notSynchronized
  subst hsz
  have hD := hD0.self (sz := s.heap.size)
  generalize hAe : va_A (lsW d g li sl le ll la be en mn n m) s.heap.size = A at hD ⊢
  have hA : ∀ q : Nat, s.heap.size ≤ q → A q := fun q h => by rw [← hAe]; exact Or.inr h
  have hS : va_S A s.heap s.heap [] := va_S.rf
  have hP : va_P (dC, dI) vwCl (lsW d g li sl le ll la be en mn n m) s.heap := hP
  have hl := lv_entry ([.ref (g 0), .int w]) (n := 2) (Nat.le_of_ble_eq_true rfl)
  rw [lg_entry_eq]
  generalize (lg_sl ([.ref (g 0), .int w]) ++ List.replicate (2 - (lg_sl ([.ref (g 0), .int w])).length) Slot.unset).toArray = ls at hl ⊢
  have hl : lv_has ls 2 [(0, .ref (g 0)), (1, .int w)] := hl
  obtain ⟨i1, i2, i3, i4, i5, i6, i7, i8, i9⟩ := id hI
  refine lv_aload_n hx hb dX0_left_0 rfl (lv_at hl 0 rfl) ?_
  refine va_get (D := (dC, dI)) (ci := 0) (v := .int (nI n)) (C := RX0) (T := TX0) (N := 8) hx hb hts in_X0 hown hK hP 0 rfl rfl 5 (by decide) (hts _ q44) (fun _ h9 => h9) rfl dX0_left_1 ?_
  refine lv_sipush (v := nI 128) hx hb dX0_left_4 (by decide) ?_
  refine ls_ne (x := n) (y := 128) (tgt := 12) hx hb (by omega) (by omega) dX0_left_7 (by decide) (fun hc => ?_) (fun hc => ?_)
  · have hn : n < 128 := by omega
    refine lv_aload_n hx hb dX0_left_12 rfl (lv_at hl 0 rfl) ?_
    refine va_get (D := (dC, dI)) (ci := 0) (v := .ref (g 5)) (C := RX0) (T := TX0) (N := 8) hx hb hts in_X0 hown hK hP 0 rfl rfl 2 (by decide) (hts _ q41) (fun _ h9 => h9) rfl dX0_left_13 ?_
    refine lv_aload_n hx hb dX0_left_16 rfl (lv_at hl 0 rfl) ?_
    refine va_get (D := (dC, dI)) (ci := 0) (v := .int (nI n)) (C := RX0) (T := TX0) (N := 8) hx hb hts in_X0 hown hK hP 0 rfl rfl 5 (by decide) (hts _ q44) (fun _ h9 => h9) rfl dX0_left_17 ?_
    refine lv_iload_n hx hb dX0_left_20 rfl (lv_at hl 1 rfl) ?_
    refine ls_ast (k := n) hx hb hK hP hD hS 5 rfl (hn) (by decide) dX0_left_21 (fun H locs hP hD hS => ?_)
    have hP : va_P (dC, dI) vwCl (lsW d g li sl le (upd ll n w) la be en mn n m) H := hP
    have hD : va_D A (lsW d g li sl le (upd ll n w) la be en mn n m) := hD
    refine lv_aload_n hx hb dX0_left_22 rfl (lv_at hl 0 rfl) ?_
    refine va_get (D := (dC, dI)) (ci := 0) (v := .ref (g 4)) (C := RX0) (T := TX0) (N := 8) hx hb hts in_X0 hown hK hP 0 rfl rfl 1 (by decide) (hts _ q40) (fun _ h9 => h9) rfl dX0_left_23 ?_
    refine lv_aload_n hx hb dX0_left_26 rfl (lv_at hl 0 rfl) ?_
    refine lv_dup hx hb dX0_left_27 rfl ?_
    refine va_get (D := (dC, dI)) (ci := 0) (v := .int (nI n)) (C := RX0) (T := TX0) (N := 8) hx hb hts in_X0 hown hK hP 0 rfl rfl 5 (by decide) (hts _ q44) (fun _ h9 => h9) rfl dX0_left_28 ?_
    refine lv_dup_x1 hx hb dX0_left_31 rfl rfl ?_
    refine lv_iconst (v := nI 1) hx hb dX0_left_32 (by decide) ?_
    refine lv_iadd hx hb dX0_left_33 ?_
    refine ls_top (nI_add n 1) ?_
    refine va_put (D := (dC, dI)) (ci := 0) (v := .int (nI (n + 1))) (ty := .int) (C := RX0) (T := TX0) (N := 8) hx hb hts in_X0 tyX0 tyX0_ok nmX0 hown hK hP hD hS 0 rfl rfl 5 (by decide) (hts _ q44) (fun _ h9 => h9) rfl (by decide +kernel) rfl rfl (Nat.le_of_ble_eq_true rfl) dX0_left_34 (fun H locs hP hD hS => ?_)
    have hP : va_P (dC, dI) vwCl (lsW d g li sl le (upd ll n w) la be en mn (n + 1) m) H := hP
    have hD : va_D A (lsW d g li sl le (upd ll n w) la be en mn (n + 1) m) := hD
    refine lv_aload_n hx hb dX0_left_37 rfl (lv_at hl 0 rfl) ?_
    refine va_get (D := (dC, dI)) (ci := 0) (v := .ref (g 1)) (C := RX0) (T := TX0) (N := 8) hx hb hts in_X0 hown hK hP 0 rfl rfl 0 (by decide) (hts _ q39) (fun _ h9 => h9) rfl dX0_left_38 ?_
    refine lv_iload_n hx hb dX0_left_41 rfl (lv_at hl 1 rfl) ?_
    have hPc := hP.sub (ws' := (nbW d (g 1) (g 2) (g 3) li sl mn)) [1, 2, 3] rfl
    have hDc := hD.sub (ws' := (nbW d (g 1) (g 2) (g 3) li sl mn)) [1, 2, 3] (by decide) rfl
    have hFc := va_free (wc := (nbW d (g 1) (g 2) (g 3) li sl mn)) hD hS hA [1, 2, 3] rfl
    refine va_calli (va_runV (As := [.int w]) (rest := [.int (nI n), .ref (g 4)]) ⟨hx, hb, hml, hown, hts⟩ (met_of l dC dI d (g 1) (g 2) (g 3) li sl mn w H.size i4 (by omega)) (cwV 1 hts (lw_V q68 q69 q70 q2 q71) rfl rfl rfl (by decide +kernel) ⟨Nat.le_of_ble_eq_true rfl, Nat.le_of_ble_eq_true rfl⟩) ⟨ls_blind, va_recv hK hPc (ci := 1) (q0 := 0) rfl rfl, ls_pre hPc hK hDc⟩ rfl rfl hl.1 rfl (lv_room (Nat.le_of_ble_eq_true rfl)) dX0_left_42 ⟨Nat.le_of_ble_eq_true rfl, Nat.le_of_ble_eq_true rfl⟩) hS (fun q _ h => hFc q h) hFc (fun r u t H1 locs ht hvm hw hB hz1 hk1 hS => ?_)
    obtain ⟨li2, sl2, mn2⟩ := u
    obtain ⟨k, rfl, hR⟩ := hw
    obtain ⟨hP1, hK1, hD1⟩ := hB
    rw [ht] at hP1
    obtain ⟨hP, hD⟩ := va_join (wr := [(g 0, .inr (0, [.ref (g 1), .ref (g 4), .ref (g 5), .ref (g 6), .ref (g 7), .int (nI (n + 1)), .int (nI m), .ref (g 8)])), (g 4, .inl (d, 128, .inl le)), (g 5, .inl (d, 128, .inl (upd ll n w))), (g 6, .inl (d, 256, .inl la)), (g 7, .inl (d, 128, .inl be)), (g 8, .inl (d, 128, .inl en))]) (w1 := (nbW d (g 1) (g 2) (g 3) li2 sl2 mn2)) hP hD [1, 2, 3] [0, 4, 5, 6, 7, 8] rfl rfl (by decide) (by decide) hk1 hFc hP1 hD1
    generalize H1 = H at hP hS ⊢
    have hP : va_P (dC, dI) vwCl (lsW d g li2 sl2 le (upd ll n w) la be en mn2 (n + 1) m) H := hP.sub [0, 6, 7, 8, 1, 2, 3, 4, 5] rfl
    have hD : va_D A (lsW d g li2 sl2 le (upd ll n w) la be en mn2 (n + 1) m) := hD.sub [0, 6, 7, 8, 1, 2, 3, 4, 5] (by decide) rfl
    refine ls_ast (k := n) hx hb hK hP hD hS 4 rfl (hn) (by decide) dX0_left_45 (fun H locs hP hD hS => ?_)
    have hP : va_P (dC, dI) vwCl (lsW d g li2 sl2 (upd le n (nI k)) (upd ll n w) la be en mn2 (n + 1) m) H := hP
    have hD : va_D A (lsW d g li2 sl2 (upd le n (nI k)) (upd ll n w) la be en mn2 (n + 1) m) := hD
    refine lv_iconst (v := 1) hx hb dX0_left_46 (by decide) ?_
    exact W.zret (v := 1) hx hb hr rfl (fun t ht hW => ⟨⟨1, (li2, sl2, upd le n (nI k), upd ll n w, mn2, n + 1), rfl, Or.inr ⟨hn, rfl, rfl, ls_I_left hI hn hR⟩, by rw [ht]; exact hP, va_K.moved hW.alike hK, hD⟩, hS.F ht⟩) hS.2.2 dX0_left_47
  · refine lv_iconst (v := 0) hx hb dX0_left_10 (by decide) ?_
    exact W.zret (v := 0) hx hb hr rfl (fun t ht hW => ⟨⟨0, (li, sl, le, ll, mn, n), rfl, Or.inl ⟨hc, rfl, rfl, hI⟩, by rw [ht]; exact hP, va_K.moved hW.alike hK, hD⟩, hS.F ht⟩) hS.2.2 dX0_left_11
set_option maxHeartbeats 4000000 in
set_option maxRecDepth 100000 in
/-- LeastScript.right(w): a line more on the right, if there is room -/
theorem met_right (l : Launch) (dC : Nat → ClassId) (dI : Nat → Nat → Nat) (d : ClassId) (g : Nat → Nat) (li sl le ll la be en : Nat → Int32) (mn n m : Nat) (a b : Nat → Int32) (w : Int32) (sz : Nat) (hI : ls_I a n b m li sl mn le ll la be) : Met l yX0_right (ws_ yX0_right cX0_right 3 (some .boolean)) ({ frames := 1, cells := 0, slots := 0, locals := 22 }) (cPre dC dI d [.ref (g 0), .int w] sz (lsW d g li sl le ll la be en mn n m)) (va_Qi (fun (r : Int32) (u : (Nat → Int32) × (Nat → Int32) × (Nat → Int32) × (Nat → Int32) × Nat × Nat) => (m = 128 ∧ r = 0 ∧ u.2.2.2.2.2 = m ∧ ls_I a n b m u.1 u.2.1 u.2.2.2.2.1 le ll u.2.2.1 u.2.2.2.1) ∨ (m < 128 ∧ r = 1 ∧ u.2.2.2.2.2 = m + 1 ∧ ls_I a n (upd b m w) (m + 1) u.1 u.2.1 u.2.2.2.2.1 le ll u.2.2.1 u.2.2.2.1)) (cB dC dI d (va_A (lsW d g li sl le ll la be en mn n m) sz) (fun u => lsW d g u.1 u.2.1 le ll u.2.2.1 u.2.2.2.1 en u.2.2.2.2.1 n u.2.2.2.2.2)) (va_A (lsW d g li sl le ll la be en mn n m) sz)) 0 0 (va_A (lsW d g li sl le ll la be en mn n m) sz) := by
  refine Met.ofW (cc := cX0_right) (maxL := 3) (ret := (some .boolean)) (by decide) rfl ?_
  intro p e s m0 args below meth c s₁ B hml hv
  obtain ⟨rfl, hsz, hP, hK, hD0⟩ := hv
  have hx := B.exec
  have hb := B.bytes
  have hr := B.returns
  have hts := atoms_spec (ws := ws_ yX0_right cX0_right 3 (some .boolean)) B.pre
  have hts : ∀ w ∈ lw_all, w.before _ s = true := fun w h => hts w (List.mem_cons_of_mem _ h)
  have hown : s.vm.findClass RX0 = some m0.cls := findClass_of_methodNamed B.named
  have hlocks := B.notSynchronized
  subst hsz
  have hD := hD0.self (sz := s.heap.size)
  generalize hAe : va_A (lsW d g li sl le ll la be en mn n m) s.heap.size = A at hD ⊢
  have hA : ∀ q : Nat, s.heap.size ≤ q → A q := fun q h => by rw [← hAe]; exact Or.inr h
  have hS : va_S A s.heap s.heap [] := va_S.rf
  have hP : va_P (dC, dI) vwCl (lsW d g li sl le ll la be en mn n m) s.heap := hP
  have hl := lv_entry ([.ref (g 0), .int w]) (n := 3) (Nat.le_of_ble_eq_true rfl)
  rw [lg_entry_eq]
  generalize (lg_sl ([.ref (g 0), .int w]) ++ List.replicate (3 - (lg_sl ([.ref (g 0), .int w])).length) Slot.unset).toArray = ls at hl ⊢
  have hl : lv_has ls 3 [(0, .ref (g 0)), (1, .int w)] := hl
  obtain ⟨i1, i2, i3, i4, i5, i6, i7, i8, i9⟩ := id hI
  refine lv_aload_n hx hb dX0_right_0 rfl (lv_at hl 0 rfl) ?_
  refine va_get (D := (dC, dI)) (ci := 0) (v := .int (nI m)) (C := RX0) (T := TX0) (N := 8) hx hb hts in_X0 hown hK hP 0 rfl rfl 6 (by decide) (hts _ q45) (fun _ h9 => h9) rfl dX0_right_1 ?_
  refine lv_sipush (v := nI 128) hx hb dX0_right_4 (by decide) ?_
  refine ls_ne (x := m) (y := 128) (tgt := 12) hx hb (by omega) (by omega) dX0_right_7 (by decide) (fun hc => ?_) (fun hc => ?_)
  · have hm : m < 128 := by omega
    refine lv_aload_n hx hb dX0_right_12 rfl (lv_at hl 0 rfl) ?_
    refine va_get (D := (dC, dI)) (ci := 0) (v := .ref (g 1)) (C := RX0) (T := TX0) (N := 8) hx hb hts in_X0 hown hK hP 0 rfl rfl 0 (by decide) (hts _ q39) (fun _ h9 => h9) rfl dX0_right_13 ?_
    refine lv_iload_n hx hb dX0_right_16 rfl (lv_at hl 1 rfl) ?_
    have hPc := hP.sub (ws' := (nbW d (g 1) (g 2) (g 3) li sl mn)) [1, 2, 3] rfl
    have hDc := hD.sub (ws' := (nbW d (g 1) (g 2) (g 3) li sl mn)) [1, 2, 3] (by decide) rfl
    have hFc := va_free (wc := (nbW d (g 1) (g 2) (g 3) li sl mn)) hD hS hA [1, 2, 3] rfl
    refine va_calli (va_runV (As := [.int w]) (rest := []) ⟨hx, hb, hml, hown, hts⟩ (met_of l dC dI d (g 1) (g 2) (g 3) li sl mn w s.heap.size i4 (by omega)) (cwV 1 hts (lw_V q68 q69 q70 q2 q71) rfl rfl rfl (by decide +kernel) ⟨Nat.le_of_ble_eq_true rfl, Nat.le_of_ble_eq_true rfl⟩) ⟨ls_blind, va_recv hK hPc (ci := 1) (q0 := 0) rfl rfl, ls_pre hPc hK hDc⟩ rfl rfl hl.1 rfl (lv_room (Nat.le_of_ble_eq_true rfl)) dX0_right_17 ⟨Nat.le_of_ble_eq_true rfl, Nat.le_of_ble_eq_true rfl⟩) hS (fun q _ h => hFc q h) hFc (fun r u t H1 locs ht hvm hw hB hz1 hk1 hS => ?_)
    obtain ⟨li2, sl2, mn2⟩ := u
    obtain ⟨k, rfl, hR⟩ := hw
    obtain ⟨hP1, hK1, hD1⟩ := hB
    rw [ht] at hP1
    obtain ⟨hP, hD⟩ := va_join (wr := [(g 0, .inr (0, [.ref (g 1), .ref (g 4), .ref (g 5), .ref (g 6), .ref (g 7), .int (nI n), .int (nI m), .ref (g 8)])), (g 4, .inl (d, 128, .inl le)), (g 5, .inl (d, 128, .inl ll)), (g 6, .inl (d, 256, .inl la)), (g 7, .inl (d, 128, .inl be)), (g 8, .inl (d, 128, .inl en))]) (w1 := (nbW d (g 1) (g 2) (g 3) li2 sl2 mn2)) hP hD [1, 2, 3] [0, 4, 5, 6, 7, 8] rfl rfl (by decide) (by decide) hk1 hFc hP1 hD1
    generalize H1 = H at hP hS ⊢
    have hP : va_P (dC, dI) vwCl (lsW d g li2 sl2 le ll la be en mn2 n m) H := hP.sub [0, 6, 7, 8, 1, 2, 3, 4, 5] rfl
    have hD : va_D A (lsW d g li2 sl2 le ll la be en mn2 n m) := hD.sub [0, 6, 7, 8, 1, 2, 3, 4, 5] (by decide) rfl
    have hk : k < 256 := by
      rcases hR.2 with q | q <;> omega
    refine lv_istore_n (lv' := [(2, .int (nI k)), (0, .ref (g 0)), (1, .int w)]) hx hb dX0_right_20 rfl hl (by decide) rfl (fun ls hl => ?_)
    refine lv_aload_n hx hb dX0_right_21 rfl (lv_at hl 1 rfl) ?_
    refine va_get (D := (dC, dI)) (ci := 0) (v := .ref (g 7)) (C := RX0) (T := TX0) (N := 8) hx hb hts in_X0 hown hK hP 0 rfl rfl 4 (by decide) (hts _ q43) (fun _ h9 => h9) rfl dX0_right_22 ?_
    refine lv_aload_n hx hb dX0_right_25 rfl (lv_at hl 1 rfl) ?_
    refine va_get (D := (dC, dI)) (ci := 0) (v := .int (nI m)) (C := RX0) (T := TX0) (N := 8) hx hb hts in_X0 hown hK hP 0 rfl rfl 6 (by decide) (hts _ q45) (fun _ h9 => h9) rfl dX0_right_26 ?_
    refine lv_aload_n hx hb dX0_right_29 rfl (lv_at hl 1 rfl) ?_
    refine va_get (D := (dC, dI)) (ci := 0) (v := .ref (g 6)) (C := RX0) (T := TX0) (N := 8) hx hb hts in_X0 hown hK hP 0 rfl rfl 3 (by decide) (hts _ q42) (fun _ h9 => h9) rfl dX0_right_30 ?_
    refine lv_iload_n hx hb dX0_right_33 rfl (lv_at hl 0 rfl) ?_
    refine ls_ald (k := k) (v := la k) hx hb hK hP 6 rfl (hk) (by decide) (rfl) dX0_right_34 ?_
    refine ls_ast (k := m) hx hb hK hP hD hS 7 rfl (hm) (by decide) dX0_right_35 (fun H locs hP hD hS => ?_)
    have hP : va_P (dC, dI) vwCl (lsW d g li2 sl2 le ll la (upd be m (la k)) en mn2 n m) H := hP
    have hD : va_D A (lsW d g li2 sl2 le ll la (upd be m (la k)) en mn2 n m) := hD
    refine lv_aload_n hx hb dX0_right_36 rfl (lv_at hl 1 rfl) ?_
    refine va_get (D := (dC, dI)) (ci := 0) (v := .ref (g 6)) (C := RX0) (T := TX0) (N := 8) hx hb hts in_X0 hown hK hP 0 rfl rfl 3 (by decide) (hts _ q42) (fun _ h9 => h9) rfl dX0_right_37 ?_
    refine lv_iload_n hx hb dX0_right_40 rfl (lv_at hl 0 rfl) ?_
    refine lv_aload_n hx hb dX0_right_41 rfl (lv_at hl 1 rfl) ?_
    refine lv_dup hx hb dX0_right_42 rfl ?_
    refine va_get (D := (dC, dI)) (ci := 0) (v := .int (nI m)) (C := RX0) (T := TX0) (N := 8) hx hb hts in_X0 hown hK hP 0 rfl rfl 6 (by decide) (hts _ q45) (fun _ h9 => h9) rfl dX0_right_43 ?_
    refine lv_dup_x1 hx hb dX0_right_46 rfl rfl ?_
    refine lv_iconst (v := nI 1) hx hb dX0_right_47 (by decide) ?_
    refine lv_iadd hx hb dX0_right_48 ?_
    refine ls_top (nI_add m 1) ?_
    refine va_put (D := (dC, dI)) (ci := 0) (v := .int (nI (m + 1))) (ty := .int) (C := RX0) (T := TX0) (N := 8) hx hb hts in_X0 tyX0 tyX0_ok nmX0 hown hK hP hD hS 0 rfl rfl 6 (by decide) (hts _ q45) (fun _ h9 => h9) rfl (by decide +kernel) rfl rfl (Nat.le_of_ble_eq_true rfl) dX0_right_49 (fun H locs hP hD hS => ?_)
    have hP : va_P (dC, dI) vwCl (lsW d g li2 sl2 le ll la (upd be m (la k)) en mn2 n (m + 1)) H := hP
    have hD : va_D A (lsW d g li2 sl2 le ll la (upd be m (la k)) en mn2 n (m + 1)) := hD
    refine ls_ast (k := k) hx hb hK hP hD hS 6 rfl (hk) (by decide) dX0_right_52 (fun H locs hP hD hS => ?_)
    have hP : va_P (dC, dI) vwCl (lsW d g li2 sl2 le ll (upd la k (nI m)) (upd be m (la k)) en mn2 n (m + 1)) H := hP
    have hD : va_D A (lsW d g li2 sl2 le ll (upd la k (nI m)) (upd be m (la k)) en mn2 n (m + 1)) := hD
    refine lv_iconst (v := 1) hx hb dX0_right_53 (by decide) ?_
    exact W.zret (v := 1) hx hb hr rfl (fun t ht hW => ⟨⟨1, (li2, sl2, upd la k (nI m), upd be m (la k), mn2, m + 1), rfl, Or.inr ⟨hm, rfl, rfl, ls_I_right hI hm hR⟩, by rw [ht]; exact hP, va_K.moved hW.alike hK, hD⟩, hS.F ht⟩) hS.2.2 dX0_right_54
  · refine lv_iconst (v := 0) hx hb dX0_right_10 (by decide) ?_
    exact W.zret (v := 0) hx hb hr rfl (fun t ht hW => ⟨⟨0, (li, sl, la, be, mn, m), rfl, Or.inl ⟨hc, rfl, rfl, hI⟩, by rw [ht]; exact hP, va_K.moved hW.alike hK, hD⟩, hS.F ht⟩) hS.2.2 dX0_right_11
end
section
/-! ===== LeastScript.copy ===== -/
/-- an int without its sign, as a number -/
def cp_f (x : Int32) : Nat := x.toBitVec.toNat % 2 ^ 31
theorem cp_f_eq (x : Int32) : x &&& 2147483647 = nI (cp_f x) := pk_and x 31 (by decide)
theorem cp_f_lt (x : Int32) : cp_f x < 2 ^ 31 := Nat.mod_lt _ (by decide)
theorem ls_min {x y : Nat} (hx : x < 2 ^ 31) (hy : y < 2 ^ 31) : (if nI y < nI x then nI y else nI x) = nI (min x y) := by
  by_cases h : y < x
  · rw [if_pos ((nI_ltI hy hx).mpr h), Nat.min_eq_right (by omega)]
  · rw [if_neg (fun q => h ((nI_ltI hy hx).mp q)), Nat.min_eq_left (by omega)]
set_option maxHeartbeats 4000000 in
set_option maxRecDepth 100000 in
/-- LeastScript.copy, its loop at the head: i lines copied -/
theorem cy_loop {p : Program} {l : Launch} {e : Env} {R : Room} {s : State} {m0 : MethodId} {args : Array Value} {below : List Frame} {meth : Method} {c : Code} {cells slots : Nat} {Q : State → Prop} {dC : Nat → ClassId} {dI : Nat → Nat → Nat} {d : ClassId} {A : Nat → Prop} {g : Nat → Nat} {a b le ll en : Nat → Int32} {n m f K : Nat} (hx : p.tables.exec = Jvm.exec) (hb : c.code = cX0_copy) (hts : ∀ w ∈ lw_all, w.before args s = true) (hown : s.vm.findClass RX0 = some m0.cls) (hK : va_K (dC, dI) vwCl [(d, .int)] s) (hml : c.maxLocals = 6) (hA : ∀ q : Nat, s.heap.size ≤ q → A q) (hR : 2 ≤ R.frames ∧ 44 ≤ R.locals) (hfit : cells ≤ R.cells ∧ slots ≤ R.slots) (hf : f + K ≤ n) (hk : m + K ≤ 128)
    (hend : ∀ (li sl la be : Nat → Int32) (mn : Nat) (H : Heap) (locs : List Loc) (ls : Array Slot), ls_I a n (cp_B a b f m K) (m + K) li sl mn le ll la be → va_P (dC, dI) vwCl (lsW d g li sl le ll la be en mn n (m + K)) H → va_D A (lsW d g li sl le ll la be en mn n (m + K)) → va_S A s.heap H locs → lv_has ls 6 [(0, .ref (g 0)), (4, .int (nI K))] → W p l e R s m0 args below meth c H locs cells slots Q (F0 m0 82 ls [])) :
    ∀ (z i : Nat) (li sl la be : Nat → Int32) (mn : Nat) (H : Heap) (locs : List Loc) (ls : Array Slot), i ≤ K → K + 1 ≤ i + z → ls_I a n (cp_B a b f m i) (m + i) li sl mn le ll la be → va_P (dC, dI) vwCl (lsW d g li sl le ll la be en mn n (m + i)) H → va_D A (lsW d g li sl le ll la be en mn n (m + i)) → va_S A s.heap H locs → lv_has ls 6 [(0, .ref (g 0)), (3, .int (nI f)), (4, .int (nI K)), (5, .int (nI i))] → W p l e R s m0 args below meth c H locs cells slots Q (F0 m0 55 ls []) := by
  intro z
  induction z with
  | zero =>
    intro i li sl la be mn H locs ls h1 h2
    exact absurd h2 (by omega)
  | succ z ih =>
    intro i li sl la be mn H locs ls hi hin hI hP hD hS hl
    obtain ⟨i1, i2, i3, i4, i5, i6, i7, i8, i9⟩ := id hI
    refine lv_iload hx hb dX0_copy_55 (lv_at hl 3 rfl) ?_
    refine lv_iload hx hb dX0_copy_57 (lv_at hl 2 rfl) ?_
    refine ls_ge (x := i) (y := K) (tgt := 82) hx hb (by omega) (by omega) dX0_copy_59 (by decide) (fun hc => ?_) (fun hc => ?_)
    · obtain rfl : i = K := by omega
      exact hend li sl la be mn H locs ls hI hP hD hS (lv_sub hl [0, 2] rfl)
    · refine lv_aload_n hx hb dX0_copy_62 rfl (lv_at hl 0 rfl) ?_
      refine lv_aload_n hx hb dX0_copy_63 rfl (lv_at hl 0 rfl) ?_
      refine va_get (D := (dC, dI)) (ci := 0) (v := .ref (g 5)) (C := RX0) (T := TX0) (N := 8) hx hb hts in_X0 hown hK hP 0 rfl rfl 2 (by decide) (hts _ q41) (fun _ h9 => h9) rfl dX0_copy_64 ?_
      refine lv_iload_n hx hb dX0_copy_67 rfl (lv_at hl 1 rfl) ?_
      refine lv_iload hx hb dX0_copy_68 (lv_at hl 3 rfl) ?_
      refine lv_iadd hx hb dX0_copy_70 ?_
      refine ls_top (nI_add f i) ?_
      refine ls_ald (k := (f + i)) (v := a (f + i)) hx hb hK hP 5 rfl (by omega) (by decide) (i5 (f + i) (by omega)) dX0_copy_71 ?_
      have hPc := hP.sub (ws' := (lsW d g li sl le ll la be en mn n (m + i))) [0, 1, 2, 3, 4, 5, 6, 7, 8] rfl
      have hDc := hD.sub (ws' := (lsW d g li sl le ll la be en mn n (m + i))) [0, 1, 2, 3, 4, 5, 6, 7, 8] (by decide) rfl
      have hFc := va_free (wc := (lsW d g li sl le ll la be en mn n (m + i))) hD hS hA [0, 1, 2, 3, 4, 5, 6, 7, 8] rfl
      refine va_calli (va_runV (As := [.int (a (f + i))]) (rest := []) ⟨hx, hb, hml, hown, hts⟩ (met_right l dC dI d g li sl le ll la be en mn n (m + i) a (cp_B a b f m i) (a (f + i)) H.size hI) (cwV 1 hts (lw_V q85 q74 q75 q1 q76) rfl rfl rfl (by decide +kernel) hR) ⟨ls_blind, va_recv hK hPc (ci := 0) (q0 := 0) rfl rfl, ls_pre hPc hK hDc⟩ rfl rfl hl.1 rfl (lv_room (Nat.le_of_ble_eq_true rfl)) dX0_copy_72 hfit) hS (fun q _ h => hFc q h) hFc (fun r u t H1 locs ht hvm hw hB hz1 hk1 hS => ?_)
      obtain ⟨li2, sl2, la2, be2, mn2, m2⟩ := u
      obtain ⟨hP1, hK1, hD1⟩ := hB
      rw [ht] at hP1
      obtain ⟨hP, hD⟩ := va_join (wr := []) (w1 := (lsW d g li2 sl2 le ll la2 be2 en mn2 n m2)) hP hD [0, 1, 2, 3, 4, 5, 6, 7, 8] [] rfl rfl (by decide) (by decide) hk1 hFc hP1 hD1
      generalize H1 = H at hP hS ⊢
      have hP : va_P (dC, dI) vwCl (lsW d g li2 sl2 le ll la2 be2 en mn2 n m2) H := hP.sub [0, 1, 2, 3, 4, 5, 6, 7, 8] rfl
      have hD : va_D A (lsW d g li2 sl2 le ll la2 be2 en mn2 n m2) := hD.sub [0, 1, 2, 3, 4, 5, 6, 7, 8] (by decide) rfl
      rcases hw with ⟨w1, w2, w3, w4⟩ | ⟨w1, w2, w3, w4⟩
      · exact absurd w1 (by omega)
      have w3 : m2 = m + (i + 1) := w3
      subst w3
      refine lv_pop hx hb dX0_copy_75 rfl ?_
      refine lv_iinc (v := nI (i + 1)) (lv' := [(5, .int (nI (i + 1))), (0, .ref (g 0)), (3, .int (nI f)), (4, .int (nI K))]) hx hb dX0_copy_76 hl (k := 3) rfl (ls_inc i) (by decide) rfl (fun ls hl => ?_)
      refine lv_goto (tgt := 55) hx hb dX0_copy_79 (by decide) ?_
      exact ih (i + 1) li2 sl2 la2 be2 mn2 H locs ls (by omega) (by omega) w4 hP hD hS (lv_sub hl [1, 2, 3, 0] rfl)
set_option maxHeartbeats 4000000 in
set_option maxRecDepth 100000 in
/-- LeastScript.copy(from, count): lines of the left text copied to the right one -/
theorem met_copy (l : Launch) (dC : Nat → ClassId) (dI : Nat → Nat → Nat) (d : ClassId) (g : Nat → Nat) (li sl le ll la be en : Nat → Int32) (mn n m : Nat) (a b : Nat → Int32) (fr ct : Int32) (sz : Nat) (hI : ls_I a n b m li sl mn le ll la be) : Met l yX0_copy (ws_ yX0_copy cX0_copy 6 (some .int)) ({ frames := 2, cells := 0, slots := 0, locals := 44 }) (cPre dC dI d [.ref (g 0), .int fr, .int ct] sz (lsW d g li sl le ll la be en mn n m)) (va_Qi (fun (r : Int32) (u : (Nat → Int32) × (Nat → Int32) × (Nat → Int32) × (Nat → Int32) × Nat × Nat) => (n = 0 ∧ r = -1 ∧ u.2.2.2.2.2 = m ∧ ls_I a n b m u.1 u.2.1 u.2.2.2.2.1 le ll u.2.2.1 u.2.2.2.1) ∨ (0 < n ∧ r = nI (cp_K n m (cp_f fr % n) (cp_f ct % 33)) ∧ u.2.2.2.2.2 = m + cp_K n m (cp_f fr % n) (cp_f ct % 33) ∧ ls_I a n (cp_B a b (cp_f fr % n) m (cp_K n m (cp_f fr % n) (cp_f ct % 33))) (m + cp_K n m (cp_f fr % n) (cp_f ct % 33)) u.1 u.2.1 u.2.2.2.2.1 le ll u.2.2.1 u.2.2.2.1)) (cB dC dI d (va_A (lsW d g li sl le ll la be en mn n m) sz) (fun u => lsW d g u.1 u.2.1 le ll u.2.2.1 u.2.2.2.1 en u.2.2.2.2.1 n u.2.2.2.2.2)) (va_A (lsW d g li sl le ll la be en mn n m) sz)) 0 0 (va_A (lsW d g li sl le ll la be en mn n m) sz) := by
  refine Met.ofW (cc := cX0_copy) (maxL := 6) (ret := (some .int)) (by decide) rfl ?_
  intro p e s m0 args below meth c s₁ B hml hv
  obtain ⟨rfl, hsz, hP, hK, hD0⟩ := hv
  have hx := B.exec
  have hb := B.bytes
  have hr := B.returns
  have hts := atoms_spec (ws := ws_ yX0_copy cX0_copy 6 (some .int)) B.pre
  have hts : ∀ w ∈ lw_all, w.before _ s = true := fun w h => hts w (List.mem_cons_of_mem _ h)
  have hown : s.vm.findClass RX0 = some m0.cls := findClass_of_methodNamed B.named
  have hlocks := B.notSynchronized
  subst hsz
  have hD := hD0.self (sz := s.heap.size)
  generalize hAe : va_A (lsW d g li sl le ll la be en mn n m) s.heap.size = A at hD ⊢
  have hA : ∀ q : Nat, s.heap.size ≤ q → A q := fun q h => by rw [← hAe]; exact Or.inr h
  have hS : va_S A s.heap s.heap [] := va_S.rf
  have hP : va_P (dC, dI) vwCl (lsW d g li sl le ll la be en mn n m) s.heap := hP
  have hl := lv_entry ([.ref (g 0), .int fr, .int ct]) (n := 6) (Nat.le_of_ble_eq_true rfl)
  rw [lg_entry_eq]
  generalize (lg_sl ([.ref (g 0), .int fr, .int ct]) ++ List.replicate (6 - (lg_sl ([.ref (g 0), .int fr, .int ct])).length) Slot.unset).toArray = ls at hl ⊢
  have hl : lv_has ls 6 [(0, .ref (g 0)), (1, .int fr), (2, .int ct)] := hl
  obtain ⟨i1, i2, i3, i4, i5, i6, i7, i8, i9⟩ := id hI
  refine lv_aload_n hx hb dX0_copy_0 rfl (lv_at hl 0 rfl) ?_
  refine va_get (D := (dC, dI)) (ci := 0) (v := .int (nI n)) (C := RX0) (T := TX0) (N := 8) hx hb hts in_X0 hown hK hP 0 rfl rfl 5 (by decide) (hts _ q44) (fun _ h9 => h9) rfl dX0_copy_1 ?_
  refine lv_if_ne (tgt := 9) hx hb dX0_copy_4 (by decide) (fun hc => ?_) (fun hc => ?_)
  · have hn0 : 0 < n := by
      rcases Nat.eq_zero_or_pos n with q | q
      · rw [q] at hc
        exact absurd nI_0 hc
      · exact q
    have hf : cp_f fr % n < n := Nat.mod_lt _ hn0
    refine lv_iload_n hx hb dX0_copy_9 rfl (lv_at hl 1 rfl) ?_
    refine lv_ldc (v := 2147483647) hx hb hown (hts _ q81) dX0_copy_10 ?_
    refine lv_iand hx hb dX0_copy_12 ?_
    refine ls_top (cp_f_eq fr) ?_
    refine lv_aload_n hx hb dX0_copy_13 rfl (lv_at hl 0 rfl) ?_
    refine va_get (D := (dC, dI)) (ci := 0) (v := .int (nI n)) (C := RX0) (T := TX0) (N := 8) hx hb hts in_X0 hown hK hP 0 rfl rfl 5 (by decide) (hts _ q44) (fun _ h9 => h9) rfl dX0_copy_14 ?_
    refine lv_irem hx hb dX0_copy_17 (nI_ne0 (hn0) (by omega)) ?_
    refine ls_top (pk_rem (a := (cp_f fr)) (d := n) (cp_f_lt fr) (hn0) (by omega)) ?_
    refine lv_istore_n (lv' := [(3, .int (nI ((cp_f fr) % n))), (0, .ref (g 0)), (1, .int fr), (2, .int ct)]) hx hb dX0_copy_18 rfl hl (by decide) rfl (fun ls hl => ?_)
    refine lv_iload_n hx hb dX0_copy_19 rfl (lv_at hl 3 rfl) ?_
    refine lv_ldc (v := 2147483647) hx hb hown (hts _ q81) dX0_copy_20 ?_
    refine lv_iand hx hb dX0_copy_22 ?_
    refine ls_top (cp_f_eq ct) ?_
    refine lv_bipush (v := nI 33) hx hb dX0_copy_23 (by decide) ?_
    refine lv_irem hx hb dX0_copy_25 (nI_ne0 (by decide) (by omega)) ?_
    refine ls_top (pk_rem (a := (cp_f ct)) (d := 33) (cp_f_lt ct) (by decide) (by omega)) ?_
    refine lv_istore (lv' := [(4, .int (nI ((cp_f ct) % 33))), (3, .int (nI ((cp_f fr) % n))), (0, .ref (g 0)), (1, .int fr), (2, .int ct)]) hx hb dX0_copy_26 hl (by decide) rfl (fun ls hl => ?_)
    refine lv_iload hx hb dX0_copy_28 (lv_at hl 0 rfl) ?_
    refine lv_aload_n hx hb dX0_copy_30 rfl (lv_at hl 2 rfl) ?_
    refine va_get (D := (dC, dI)) (ci := 0) (v := .int (nI n)) (C := RX0) (T := TX0) (N := 8) hx hb hts in_X0 hown hK hP 0 rfl rfl 5 (by decide) (hts _ q44) (fun _ h9 => h9) rfl dX0_copy_31 ?_
    refine lv_iload_n hx hb dX0_copy_34 rfl (lv_at hl 1 rfl) ?_
    refine lv_isub hx hb dX0_copy_35 ?_
    refine ls_top (pk_sub (a := n) (b := ((cp_f fr) % n)) (by omega)) ?_
    refine lv_sipush (v := nI 128) hx hb dX0_copy_36 (by decide) ?_
    refine lv_aload_n hx hb dX0_copy_39 rfl (lv_at hl 2 rfl) ?_
    refine va_get (D := (dC, dI)) (ci := 0) (v := .int (nI m)) (C := RX0) (T := TX0) (N := 8) hx hb hts in_X0 hown hK hP 0 rfl rfl 6 (by decide) (hts _ q45) (fun _ h9 => h9) rfl dX0_copy_40 ?_
    refine lv_isub hx hb dX0_copy_43 ?_
    refine ls_top (pk_sub (a := 128) (b := m) (by omega)) ?_
    refine va_mmin hx hb (by rw [hml]; exact hl.1.symm) hown (hts _ q82) (hts _ q83) (hts _ q4) (hts _ q84) (Nat.le_of_ble_eq_true rfl) (Nat.le_of_ble_eq_true rfl) (Nat.le_of_ble_eq_true rfl) (Nat.le_of_ble_eq_true rfl) dX0_copy_44 ?_
    refine ls_top (ls_min (x := n - cp_f fr % n) (y := 128 - m) (by omega) (by omega)) ?_
    refine va_mmin hx hb (by rw [hml]; exact hl.1.symm) hown (hts _ q82) (hts _ q83) (hts _ q4) (hts _ q84) (Nat.le_of_ble_eq_true rfl) (Nat.le_of_ble_eq_true rfl) (Nat.le_of_ble_eq_true rfl) (Nat.le_of_ble_eq_true rfl) dX0_copy_47 ?_
    refine ls_top ((ls_min (x := cp_f ct % 33) (y := min (n - cp_f fr % n) (128 - m)) (by omega) (by omega)).trans (show nI _ = nI (cp_K n m (cp_f fr % n) (cp_f ct % 33)) from rfl)) ?_
    refine lv_istore (lv' := [(4, .int (nI (cp_K n m (cp_f fr % n) (cp_f ct % 33)))), (3, .int (nI ((cp_f fr) % n))), (0, .ref (g 0)), (1, .int fr), (2, .int ct)]) hx hb dX0_copy_50 hl (by decide) rfl (fun ls hl => ?_)
    refine lv_iconst (v := nI 0) hx hb dX0_copy_52 (by decide) ?_
    refine lv_istore (lv' := [(5, .int (nI 0)), (4, .int (nI (cp_K n m (cp_f fr % n) (cp_f ct % 33)))), (3, .int (nI ((cp_f fr) % n))), (0, .ref (g 0)), (1, .int fr), (2, .int ct)]) hx hb dX0_copy_53 hl (by decide) rfl (fun ls hl => ?_)
    have hK1 : cp_f fr % n + cp_K n m (cp_f fr % n) (cp_f ct % 33) ≤ n := by
      unfold cp_K
      omega
    have hK2 : m + cp_K n m (cp_f fr % n) (cp_f ct % 33) ≤ 128 := by
      unfold cp_K
      omega
    refine cy_loop (a := a) (b := b) (m := m) hx hb hts hown hK hml hA ⟨Nat.le_of_ble_eq_true rfl, Nat.le_of_ble_eq_true rfl⟩ ⟨Nat.le_of_ble_eq_true rfl, Nat.le_of_ble_eq_true rfl⟩ hK1 hK2 (fun li sl la be mn H locs ls hI hP hD hS hl => ?_) (cp_K n m (cp_f fr % n) (cp_f ct % 33) + 1) 0 li sl la be mn s.heap [] ls (Nat.zero_le _) (by omega) hI hP hD hS (lv_sub hl [3, 2, 1, 0] rfl)
    refine lv_iload hx hb dX0_copy_82 (lv_at hl 1 rfl) ?_
    exact W.iret (v := nI (cp_K n m (cp_f fr % n) (cp_f ct % 33))) hx hb hr (fun t ht hW => ⟨⟨nI (cp_K n m (cp_f fr % n) (cp_f ct % 33)), (li, sl, la, be, mn, m + cp_K n m (cp_f fr % n) (cp_f ct % 33)), rfl, Or.inr ⟨hn0, rfl, rfl, hI⟩, by rw [ht]; exact hP, va_K.moved hW.alike hK, hD⟩, hS.F ht⟩) hS.2.2 dX0_copy_84
  · have hn0 : n = 0 := (nI_eq (by omega) (by decide)).mp (hc.trans nI_0.symm)
    refine lv_iconst (v := (-1)) hx hb dX0_copy_7 (by decide) ?_
    exact W.iret (v := (-1)) hx hb hr (fun t ht hW => ⟨⟨(-1), (li, sl, la, be, mn, m), rfl, Or.inl ⟨hn0, rfl, rfl, hI⟩, by rw [ht]; exact hP, va_K.moved hW.alike hK, hD⟩, hS.F ht⟩) hS.2.2 dX0_copy_8
end
section
/-! ===== LeastScript.turn ===== -/
set_option maxHeartbeats 4000000 in
set_option maxRecDepth 100000 in
/-- LeastScript.turn, the search at its head: the place t is between lo and hi -/
theorem bs_loop {p : Program} {l : Launch} {e : Env} {R : Room} {s : State} {m0 : MethodId} {args : Array Value} {below : List Frame} {meth : Method} {c : Code} {cells slots : Nat} {Q : State → Prop} {dC : Nat → ClassId} {dI : Nat → Nat → Nat} {d : ClassId} {A : Nat → Prop} {H : Heap} {locs : List Loc} {g : Nat → Nat} {li sl le ll la be en : Nat → Int32} {mn n m lg i j t : Nat} (hx : p.tables.exec = Jvm.exec) (hb : c.code = cX0_turn) (hts : ∀ w ∈ lw_all, w.before args s = true) (hown : s.vm.findClass RX0 = some m0.cls) (hK : va_K (dC, dI) vwCl [(d, .int)] s) (hP : va_P (dC, dI) vwCl (lsW d g li sl le ll la be en mn n m) H) (hm : m ≤ 128) (hlg : lg ≤ m) (hj : j < m) (hq : ∀ k, k < lg → ∃ v, v < m ∧ en k = nI v ∧ (v < j ↔ k < t))
    (hend : ∀ (ls : Array Slot), lv_has ls 7 [(0, .ref (g 0)), (1, .int (nI lg)), (2, .int (nI i)), (3, .int (nI j)), (4, .int (nI t))] → W p l e R s m0 args below meth c H locs cells slots Q (F0 m0 77 ls [])) :
    ∀ (z lo hi : Nat) (ls : Array Slot), lo ≤ t → t ≤ hi → hi ≤ lg → hi + 1 ≤ lo + z → lv_has ls 7 [(0, .ref (g 0)), (1, .int (nI lg)), (2, .int (nI i)), (3, .int (nI j)), (4, .int (nI lo)), (5, .int (nI hi))] → W p l e R s m0 args below meth c H locs cells slots Q (F0 m0 34 ls []) := by
  intro z
  induction z with
  | zero =>
    intro lo hi ls h1 h2 h3 h4
    exact absurd h4 (by omega)
  | succ z ih =>
    intro lo hi ls h1 h2 h3 h4 hl
    refine lv_iload hx hb dX0_turn_34 (lv_at hl 4 rfl) ?_
    refine lv_iload hx hb dX0_turn_36 (lv_at hl 5 rfl) ?_
    refine ls_ge (x := lo) (y := hi) (tgt := 77) hx hb (by omega) (by omega) dX0_turn_38 (by decide) (fun hc => ?_) (fun hc => ?_)
    · obtain rfl : lo = t := by omega
      exact hend ls (lv_sub hl [0, 1, 2, 3, 4] rfl)
    · obtain ⟨v, v1, v2, v3⟩ := hq ((lo + hi) / 2) (by omega)
      refine lv_iload hx hb dX0_turn_41 (lv_at hl 4 rfl) ?_
      refine lv_iload hx hb dX0_turn_43 (lv_at hl 5 rfl) ?_
      refine lv_iadd hx hb dX0_turn_45 ?_
      refine ls_top (nI_add lo hi) ?_
      refine lv_iconst (v := 1) hx hb dX0_turn_46 (by decide) ?_
      refine lv_ishr hx hb dX0_turn_47 ?_
      refine ls_top ((pk_shrN (n := lo + hi) (by omega) (1 &&& 31) 1 (by decide)).trans (show nI ((lo + hi) / 2 ^ 1) = nI ((lo + hi) / 2) from rfl)) ?_
      refine lv_istore (lv' := [(6, .int (nI ((lo + hi) / 2))), (0, .ref (g 0)), (1, .int (nI lg)), (2, .int (nI i)), (3, .int (nI j)), (4, .int (nI lo)), (5, .int (nI hi))]) hx hb dX0_turn_48 hl (by decide) rfl (fun ls hl => ?_)
      refine lv_aload_n hx hb dX0_turn_50 rfl (lv_at hl 1 rfl) ?_
      refine va_get (D := (dC, dI)) (ci := 0) (v := .ref (g 8)) (C := RX0) (T := TX0) (N := 8) hx hb hts in_X0 hown hK hP 0 rfl rfl 7 (by decide) (hts _ q46) (fun _ h9 => h9) rfl dX0_turn_51 ?_
      refine lv_iload hx hb dX0_turn_54 (lv_at hl 0 rfl) ?_
      refine ls_ald (k := ((lo + hi) / 2)) (v := nI v) hx hb hK hP 8 rfl (by omega) (by decide) (v2) dX0_turn_56 ?_
      refine lv_iload_n hx hb dX0_turn_57 rfl (lv_at hl 4 rfl) ?_
      refine ls_ge (x := v) (y := j) (tgt := 70) hx hb (by omega) (by omega) dX0_turn_58 (by decide) (fun hv => ?_) (fun hv => ?_)
      · refine lv_iload hx hb dX0_turn_70 (lv_at hl 0 rfl) ?_
        refine lv_istore (lv' := [(5, .int (nI ((lo + hi) / 2))), (6, .int (nI ((lo + hi) / 2))), (0, .ref (g 0)), (1, .int (nI lg)), (2, .int (nI i)), (3, .int (nI j)), (4, .int (nI lo))]) hx hb dX0_turn_72 hl (by decide) rfl (fun ls hl => ?_)
        refine lv_goto (tgt := 34) hx hb dX0_turn_74 (by decide) ?_
        exact ih lo ((lo + hi) / 2) ls h1 (by omega) (by omega) (by omega) (lv_sub hl [2, 3, 4, 5, 6, 0] rfl)
      · refine lv_iload hx hb dX0_turn_61 (lv_at hl 0 rfl) ?_
        refine lv_iconst (v := nI 1) hx hb dX0_turn_63 (by decide) ?_
        refine lv_iadd hx hb dX0_turn_64 ?_
        refine ls_top (nI_add ((lo + hi) / 2) 1) ?_
        refine lv_istore (lv' := [(4, .int (nI (((lo + hi) / 2) + 1))), (6, .int (nI ((lo + hi) / 2))), (0, .ref (g 0)), (1, .int (nI lg)), (2, .int (nI i)), (3, .int (nI j)), (5, .int (nI hi))]) hx hb dX0_turn_65 hl (by decide) rfl (fun ls hl => ?_)
        refine lv_goto (tgt := 74) hx hb dX0_turn_67 (by decide) ?_
        refine lv_goto (tgt := 34) hx hb dX0_turn_74 (by decide) ?_
        exact ih ((lo + hi) / 2 + 1) hi ls (by omega) h2 h3 (by omega) (lv_sub hl [2, 3, 4, 5, 0, 6] rfl)
set_option maxHeartbeats 4000000 in
set_option maxRecDepth 100000 in
/-- LeastScript.turn, the loop over the matches of one line: those from pp on are taken in -/
theorem in_loop {p : Program} {l : Launch} {e : Env} {R : Room} {s : State} {m0 : MethodId} {args : Array Value} {below : List Frame} {meth : Method} {c : Code} {cells slots : Nat} {Q : State → Prop} {dC : Nat → ClassId} {dI : Nat → Nat → Nat} {d : ClassId} {A : Nat → Prop} {g : Nat → Nat} {b li sl le ll la be : Nat → Int32} {F : Nat → Nat} {mn n m i : Nat} {x : Int32} (hx : p.tables.exec = Jvm.exec) (hb : c.code = cX0_turn) (hts : ∀ w ∈ lw_all, w.before args s = true) (hown : s.vm.findClass RX0 = some m0.cls) (hK : va_K (dC, dI) vwCl [(d, .int)] s) (hm : m ≤ 128) (hF : lc_ok F) (hbe : ∀ j, j < m → be j = lc_last b (b j) j)
    (hend : ∀ (lg : Nat) (en : Nat → Int32) (H : Heap) (locs : List Loc) (ls : Array Slot), lc_E (lc_row x b F) m en lg → va_P (dC, dI) vwCl (lsW d g li sl le ll la be en mn n m) H → va_D A (lsW d g li sl le ll la be en mn n m) → va_S A s.heap H locs → lv_has ls 7 [(0, .ref (g 0)), (1, .int (nI lg)), (2, .int (nI i))] → W p l e R s m0 args below meth c H locs cells slots Q (F0 m0 104 ls [])) :
    ∀ (z pp : Nat) (lg : Nat) (en : Nat → Int32) (H : Heap) (locs : List Loc) (ls : Array Slot), pp ≤ m → pp + 1 ≤ z → lc_E (lc_K x b F pp) m en lg → va_P (dC, dI) vwCl (lsW d g li sl le ll la be en mn n m) H → va_D A (lsW d g li sl le ll la be en mn n m) → va_S A s.heap H locs → lv_has ls 7 [(0, .ref (g 0)), (1, .int (nI lg)), (2, .int (nI i)), (3, .int (lc_last b x pp))] → W p l e R s m0 args below meth c H locs cells slots Q (F0 m0 24 ls []) := by
  intro z
  induction z with
  | zero =>
    intro pp lg en H locs ls h1 h2
    exact absurd h2 (by omega)
  | succ z ih =>
    intro pp lg en H locs ls hp hz hE hP hD hS hl
    rcases lc_last_c b x pp with ⟨e1, e2⟩ | ⟨j, j1, j2, j3, j4⟩
    · refine lv_iload_n hx hb dX0_turn_24 rfl (lv_at hl 3 rfl) ?_
      refine ls_top (e1) ?_
      refine ls_ltT (tgt := 104) hx hb (by decide) dX0_turn_25 (by decide) ?_
      exact hend lg en H locs ls (lc_end hE e2) hP hD hS (lv_sub hl [0, 1, 2] rfl)
    · rw [j2] at hl
      obtain ⟨st, s1, s2, s3, s4⟩ := lc_step hF hE j1 hp j3 j4
      have tail : ∀ (lg2 : Nat) (H : Heap) (locs : List Loc) (ls : Array Slot), lg2 = (if F j = lg then lg + 1 else lg) → va_P (dC, dI) vwCl (lsW d g li sl le ll la be (upd en (F j) (nI j)) mn n m) H → va_D A (lsW d g li sl le ll la be (upd en (F j) (nI j)) mn n m) → va_S A s.heap H locs → lv_has ls 7 [(0, .ref (g 0)), (1, .int (nI lg2)), (2, .int (nI i)), (3, .int (nI j))] → W p l e R s m0 args below meth c H locs cells slots Q (F0 m0 94 ls []) := by
        intro lg2 H locs ls e hP hD hS hl
        refine lv_aload_n hx hb dX0_turn_94 rfl (lv_at hl 0 rfl) ?_
        refine va_get (D := (dC, dI)) (ci := 0) (v := .ref (g 7)) (C := RX0) (T := TX0) (N := 8) hx hb hts in_X0 hown hK hP 0 rfl rfl 4 (by decide) (hts _ q43) (fun _ h9 => h9) rfl dX0_turn_95 ?_
        refine lv_iload_n hx hb dX0_turn_98 rfl (lv_at hl 3 rfl) ?_
        refine ls_ald (k := j) (v := lc_last b x j) hx hb hK hP 7 rfl (by omega) (by decide) ((hbe j (by omega)).trans (by rw [← j3])) dX0_turn_99 ?_
        refine lv_istore_n (lv' := [(3, .int (lc_last b x j)), (0, .ref (g 0)), (1, .int (nI lg2)), (2, .int (nI i))]) hx hb dX0_turn_100 rfl hl (by decide) rfl (fun ls hl => ?_)
        refine lv_goto (tgt := 24) hx hb dX0_turn_101 (by decide) ?_
        rw [← e] at st
        exact ih j lg2 _ H locs ls (by omega) (by omega) st hP hD hS (lv_sub hl [1, 2, 3, 0] rfl)
      refine lv_iload_n hx hb dX0_turn_24 rfl (lv_at hl 3 rfl) ?_
      refine ls_ltF (tgt := 104) hx hb (nI_pos (by omega)) dX0_turn_25 (by decide) ?_
      refine lv_iconst (v := nI 0) hx hb dX0_turn_28 (by decide) ?_
      refine lv_istore (lv' := [(4, .int (nI 0)), (0, .ref (g 0)), (1, .int (nI lg)), (2, .int (nI i)), (3, .int (nI j))]) hx hb dX0_turn_29 hl (by decide) rfl (fun ls hl => ?_)
      refine lv_iload_n hx hb dX0_turn_31 rfl (lv_at hl 2 rfl) ?_
      refine lv_istore (lv' := [(5, .int (nI lg)), (4, .int (nI 0)), (0, .ref (g 0)), (1, .int (nI lg)), (2, .int (nI i)), (3, .int (nI j))]) hx hb dX0_turn_32 hl (by decide) rfl (fun ls hl => ?_)
      refine bs_loop (A := A) hx hb hts hown hK hP hm s3 (show j < m by omega) s4 (fun ls hl => ?_) (lg + 1) 0 lg ls (Nat.zero_le _) s1 (Nat.le_refl _) (by omega) (lv_sub hl [2, 3, 4, 5, 1, 0] rfl)
      refine lv_aload_n hx hb dX0_turn_77 rfl (lv_at hl 0 rfl) ?_
      refine va_get (D := (dC, dI)) (ci := 0) (v := .ref (g 8)) (C := RX0) (T := TX0) (N := 8) hx hb hts in_X0 hown hK hP 0 rfl rfl 7 (by decide) (hts _ q46) (fun _ h9 => h9) rfl dX0_turn_78 ?_
      refine lv_iload hx hb dX0_turn_81 (lv_at hl 4 rfl) ?_
      refine lv_iload_n hx hb dX0_turn_83 rfl (lv_at hl 3 rfl) ?_
      refine ls_ast (k := (F j)) hx hb hK hP hD hS 8 rfl (by omega) (by decide) dX0_turn_84 (fun H locs hP hD hS => ?_)
      have hP : va_P (dC, dI) vwCl (lsW d g li sl le ll la be (upd en (F j) (nI j)) mn n m) H := hP
      have hD : va_D A (lsW d g li sl le ll la be (upd en (F j) (nI j)) mn n m) := hD
      refine lv_iload hx hb dX0_turn_85 (lv_at hl 4 rfl) ?_
      refine lv_iload_n hx hb dX0_turn_87 rfl (lv_at hl 1 rfl) ?_
      refine ls_ne (x := (F j)) (y := lg) (tgt := 94) hx hb (by omega) (by omega) dX0_turn_88 (by decide) (fun hc => ?_) (fun hc => ?_)
      · exact tail lg H locs ls (if_neg hc).symm hP hD hS (lv_sub hl [0, 1, 2, 3] rfl)
      · refine lv_iinc (v := nI (lg + 1)) (lv' := [(1, .int (nI (lg + 1))), (0, .ref (g 0)), (2, .int (nI i)), (3, .int (nI j)), (4, .int (nI (F j)))]) hx hb dX0_turn_91 hl (k := 1) rfl (ls_inc lg) (by decide) rfl (fun ls hl => ?_)
        exact tail (lg + 1) H locs ls (if_pos hc).symm hP hD hS (lv_sub hl [1, 0, 2, 3] rfl)
set_option maxHeartbeats 4000000 in
set_option maxRecDepth 100000 in
/-- LeastScript.turn, the loop over the lines of the left text: i of them are taken in -/
theorem ot_loop {p : Program} {l : Launch} {e : Env} {R : Room} {s : State} {m0 : MethodId} {args : Array Value} {below : List Frame} {meth : Method} {c : Code} {cells slots : Nat} {Q : State → Prop} {dC : Nat → ClassId} {dI : Nat → Nat → Nat} {d : ClassId} {A : Nat → Prop} {g : Nat → Nat} {a b li sl le ll la be : Nat → Int32} {mn n m : Nat} (hx : p.tables.exec = Jvm.exec) (hb : c.code = cX0_turn) (hts : ∀ w ∈ lw_all, w.before args s = true) (hown : s.vm.findClass RX0 = some m0.cls) (hK : va_K (dC, dI) vwCl [(d, .int)] s) (hI : ls_I a n b m li sl mn le ll la be)
    (hend : ∀ (lg : Nat) (en : Nat → Int32) (H : Heap) (locs : List Loc) (ls : Array Slot), lc_E (lc_F a b n) m en lg → va_P (dC, dI) vwCl (lsW d g li sl le ll la be en mn n m) H → va_D A (lsW d g li sl le ll la be en mn n m) → va_S A s.heap H locs → lv_has ls 7 [(0, .ref (g 0)), (1, .int (nI lg))] → W p l e R s m0 args below meth c H locs cells slots Q (F0 m0 110 ls [])) :
    ∀ (z i : Nat) (lg : Nat) (en : Nat → Int32) (H : Heap) (locs : List Loc) (ls : Array Slot), i ≤ n → n + 1 ≤ i + z → lc_E (lc_F a b i) m en lg → va_P (dC, dI) vwCl (lsW d g li sl le ll la be en mn n m) H → va_D A (lsW d g li sl le ll la be en mn n m) → va_S A s.heap H locs → lv_has ls 7 [(0, .ref (g 0)), (1, .int (nI lg)), (2, .int (nI i))] → W p l e R s m0 args below meth c H locs cells slots Q (F0 m0 4 ls []) := by
  obtain ⟨i1, i2, i3, i4, i5, i6, i7, i8, i9⟩ := id hI
  intro z
  induction z with
  | zero =>
    intro i lg en H locs ls h1 h2
    exact absurd h2 (by omega)
  | succ z ih =>
    intro i lg en H locs ls hi hz hE hP hD hS hl
    refine lv_iload_n hx hb dX0_turn_4 rfl (lv_at hl 2 rfl) ?_
    refine lv_aload_n hx hb dX0_turn_5 rfl (lv_at hl 0 rfl) ?_
    refine va_get (D := (dC, dI)) (ci := 0) (v := .int (nI n)) (C := RX0) (T := TX0) (N := 8) hx hb hts in_X0 hown hK hP 0 rfl rfl 5 (by decide) (hts _ q44) (fun _ h9 => h9) rfl dX0_turn_6 ?_
    refine ls_ge (x := i) (y := n) (tgt := 110) hx hb (by omega) (by omega) dX0_turn_9 (by decide) (fun hc => ?_) (fun hc => ?_)
    · obtain rfl : i = n := by omega
      exact hend lg en H locs ls hE hP hD hS (lv_sub hl [0, 1] rfl)
    · obtain ⟨k, k1, k2, k3⟩ := i6 i hc
      refine lv_aload_n hx hb dX0_turn_12 rfl (lv_at hl 0 rfl) ?_
      refine va_get (D := (dC, dI)) (ci := 0) (v := .ref (g 6)) (C := RX0) (T := TX0) (N := 8) hx hb hts in_X0 hown hK hP 0 rfl rfl 3 (by decide) (hts _ q42) (fun _ h9 => h9) rfl dX0_turn_13 ?_
      refine lv_aload_n hx hb dX0_turn_16 rfl (lv_at hl 0 rfl) ?_
      refine va_get (D := (dC, dI)) (ci := 0) (v := .ref (g 4)) (C := RX0) (T := TX0) (N := 8) hx hb hts in_X0 hown hK hP 0 rfl rfl 1 (by decide) (hts _ q40) (fun _ h9 => h9) rfl dX0_turn_17 ?_
      refine lv_iload_n hx hb dX0_turn_20 rfl (lv_at hl 2 rfl) ?_
      refine ls_ald (k := i) (v := nI k) hx hb hK hP 4 rfl (by omega) (by decide) (k2) dX0_turn_21 ?_
      refine ls_ald (k := k) (v := lc_last b (a i) m) hx hb hK hP 6 rfl (by omega) (by decide) (by rw [i7 k (by omega), if_pos k1, k3]) dX0_turn_22 ?_
      refine lv_istore_n (lv' := [(3, .int (lc_last b (a i) m)), (0, .ref (g 0)), (1, .int (nI lg)), (2, .int (nI i))]) hx hb dX0_turn_23 rfl hl (by decide) rfl (fun ls hl => ?_)
      refine in_loop (x := a i) (F := lc_F a b i) hx hb hts hown hK i2 (lc_F_ok a b i) i8 (fun lg en H locs ls hE hP hD hS hl => ?_) (m + 1) m lg en H locs ls (Nat.le_refl _) (Nat.le_refl _) (lc_begin (lc_F_ok a b i) hE) hP hD hS (lv_sub hl [1, 2, 3, 0] rfl)
      refine lv_iinc (v := nI (i + 1)) (lv' := [(2, .int (nI (i + 1))), (0, .ref (g 0)), (1, .int (nI lg))]) hx hb dX0_turn_104 hl (k := 2) rfl (ls_inc i) (by decide) rfl (fun ls hl => ?_)
      refine lv_goto (tgt := 4) hx hb dX0_turn_107 (by decide) ?_
      exact ih (i + 1) lg en H locs ls (by omega) (by omega) hE hP hD hS (lv_sub hl [1, 2, 0] rfl)
set_option maxHeartbeats 4000000 in
set_option maxRecDepth 100000 in
/-- LeastScript.turn(): the length of a least script -/
theorem met_turn (l : Launch) (dC : Nat → ClassId) (dI : Nat → Nat → Nat) (d : ClassId) (g : Nat → Nat) (li sl le ll la be en : Nat → Int32) (mn n m : Nat) (a b : Nat → Int32) (sz : Nat) (hI : ls_I a n b m li sl mn le ll la be) : Met l yX0_turn (ws_ yX0_turn cX0_turn 7 (some .int)) ({ frames := 0, cells := 0, slots := 0, locals := 0 }) (cPre dC dI d [.ref (g 0)] sz (lsW d g li sl le ll la be en mn n m)) (va_Qi (fun (r : Int32) (_ : Nat → Int32) => r = nI (n + m) - nI (2 * lc_F a b n m)) (cB dC dI d (va_A (lsW d g li sl le ll la be en mn n m) sz) (fun u => lsW d g li sl le ll la be u mn n m)) (va_A (lsW d g li sl le ll la be en mn n m) sz)) 0 0 (va_A (lsW d g li sl le ll la be en mn n m) sz) := by
  refine Met.ofW (cc := cX0_turn) (maxL := 7) (ret := (some .int)) (by decide) rfl ?_
  intro p e s m0 args below meth c s₁ B hml hv
  obtain ⟨rfl, hsz, hP, hK, hD0⟩ := hv
  have hx := B.exec
  have hb := B.bytes
  have hr := B.returns
  have hts := atoms_spec (ws := ws_ yX0_turn cX0_turn 7 (some .int)) B.pre
  have hts : ∀ w ∈ lw_all, w.before _ s = true := fun w h => hts w (List.mem_cons_of_mem _ h)
  have hown : s.vm.findClass RX0 = some m0.cls := findClass_of_methodNamed B.named
  have hlocks := B.notSynchronized
  subst hsz
  have hD := hD0.self (sz := s.heap.size)
  generalize hAe : va_A (lsW d g li sl le ll la be en mn n m) s.heap.size = A at hD ⊢
  have hA : ∀ q : Nat, s.heap.size ≤ q → A q := fun q h => by rw [← hAe]; exact Or.inr h
  have hS : va_S A s.heap s.heap [] := va_S.rf
  have hP : va_P (dC, dI) vwCl (lsW d g li sl le ll la be en mn n m) s.heap := hP
  have hl := lv_entry ([.ref (g 0)]) (n := 7) (Nat.le_of_ble_eq_true rfl)
  rw [lg_entry_eq]
  generalize (lg_sl ([.ref (g 0)]) ++ List.replicate (7 - (lg_sl ([.ref (g 0)])).length) Slot.unset).toArray = ls at hl ⊢
  have hl : lv_has ls 7 [(0, .ref (g 0))] := hl
  obtain ⟨i1, i2, i3, i4, i5, i6, i7, i8, i9⟩ := id hI
  refine lv_iconst (v := nI 0) hx hb dX0_turn_0 (by decide) ?_
  refine lv_istore_n (lv' := [(1, .int (nI 0)), (0, .ref (g 0))]) hx hb dX0_turn_1 rfl hl (by decide) rfl (fun ls hl => ?_)
  refine lv_iconst (v := nI 0) hx hb dX0_turn_2 (by decide) ?_
  refine lv_istore_n (lv' := [(2, .int (nI 0)), (1, .int (nI 0)), (0, .ref (g 0))]) hx hb dX0_turn_3 rfl hl (by decide) rfl (fun ls hl => ?_)
  refine ot_loop hx hb hts hown hK hI (fun lg en H locs ls hE hP hD hS hl => ?_) (n + 1) 0 0 en s.heap [] ls (Nat.zero_le _) (by omega) lc_E_0 hP hD hS (lv_sub hl [2, 1, 0] rfl)
  refine lv_aload_n hx hb dX0_turn_110 rfl (lv_at hl 0 rfl) ?_
  refine va_get (D := (dC, dI)) (ci := 0) (v := .int (nI n)) (C := RX0) (T := TX0) (N := 8) hx hb hts in_X0 hown hK hP 0 rfl rfl 5 (by decide) (hts _ q44) (fun _ h9 => h9) rfl dX0_turn_111 ?_
  refine lv_aload_n hx hb dX0_turn_114 rfl (lv_at hl 0 rfl) ?_
  refine va_get (D := (dC, dI)) (ci := 0) (v := .int (nI m)) (C := RX0) (T := TX0) (N := 8) hx hb hts in_X0 hown hK hP 0 rfl rfl 6 (by decide) (hts _ q45) (fun _ h9 => h9) rfl dX0_turn_115 ?_
  refine lv_iadd hx hb dX0_turn_118 ?_
  refine ls_top (nI_add n m) ?_
  refine lv_iconst (v := nI 2) hx hb dX0_turn_119 (by decide) ?_
  refine lv_iload_n hx hb dX0_turn_120 rfl (lv_at hl 1 rfl) ?_
  refine lv_imul hx hb dX0_turn_121 ?_
  refine ls_top (pk_mul 2 lg) ?_
  refine lv_isub hx hb dX0_turn_122 ?_
  exact W.iret (v := (nI (n + m) - nI (2 * lg))) hx hb hr (fun t ht hW => ⟨⟨(nI (n + m) - nI (2 * lg)), en, rfl, by rw [← hE.1], by rw [ht]; exact hP, va_K.moved hW.alike hK, hD⟩, hS.F ht⟩) hS.2.2 dX0_turn_123
end
section
/-! ===== LeastScriptModel: contracts of <init>, clear, left, right, copy ===== -/
/-- four addresses -/
abbrev g4 (c0 c1 c2 c3 : Nat) : Nat → Nat := fun k => match k with
  | 0 => c0
  | 1 => c1
  | 2 => c2
  | _ => c3
set_option maxHeartbeats 4000000 in
set_option maxRecDepth 100000 in
/-- LeastScriptModel(): no line at all -/
theorem met_minit (l : Launch) (dC : Nat → ClassId) (dI : Nat → Nat → Nat) (d : ClassId) (h0 : Nat) (sz : Nat) : Met l yX2_init (ws_ yX2_init cX2_init 1 none) ({ frames := 1, cells := 3, slots := 385, locals := 12 }) (cPre dC dI d [.ref h0] sz ([(h0, .inr (2, [.null, .null, .int (nI 0), .int (nI 0), .null]))])) (va_Qv (fun (u : Nat → Nat) => u 0 = h0) (cB dC dI d (va_A ([(h0, .inr (2, [.null, .null, .int (nI 0), .int (nI 0), .null]))]) sz) (fun u => mdW d u (fun _ => 0) (fun _ => 0) (fun _ => 0) 0 0)) (va_A ([(h0, .inr (2, [.null, .null, .int (nI 0), .int (nI 0), .null]))]) sz)) 3 385 (va_A ([(h0, .inr (2, [.null, .null, .int (nI 0), .int (nI 0), .null]))]) sz) := by
  refine Met.ofW (cc := cX2_init) (maxL := 1) (ret := none) (by decide) rfl ?_
  intro p e s m0 args below meth c s₁ B hml hv
  obtain ⟨rfl, hsz, hP, hK, hD0⟩ := hv
  have hx := B.exec
  have hb := B.bytes
  have hr := B.returns
  have hts := atoms_spec (ws := ws_ yX2_init cX2_init 1 none) B.pre
  have hts : ∀ w ∈ lw_all, w.before _ s = true := fun w h => hts w (List.mem_cons_of_mem _ h)
  have hown : s.vm.findClass RX2 = some m0.cls := findClass_of_methodNamed B.named
  have hlocks := B.notSynchronized
  have hin : meth.name = "<init>" := (name_of_methodNamed B.named B.method).1
  subst hsz
  have hD := hD0.self (sz := s.heap.size)
  generalize hAe : va_A ([(h0, .inr (2, [.null, .null, .int (nI 0), .int (nI 0), .null]))]) s.heap.size = A at hD ⊢
  have hA : ∀ q : Nat, s.heap.size ≤ q → A q := fun q h => by rw [← hAe]; exact Or.inr h
  have hS : va_S A s.heap s.heap [] := va_S.rf
  have hP : va_P (dC, dI) vwCl ([(h0, .inr (2, [.null, .null, .int (nI 0), .int (nI 0), .null]))]) s.heap := hP
  have hl := lv_entry ([.ref h0]) (n := 1) (Nat.le_of_ble_eq_true rfl)
  rw [lg_entry_eq]
  generalize (lg_sl ([.ref h0]) ++ List.replicate (1 - (lg_sl ([.ref h0])).length) Slot.unset).toArray = ls at hl ⊢
  have hl : lv_has ls 1 [(0, .ref h0)] := hl
  refine lv_aload_n hx hb dX2_init_0 rfl (lv_at hl 0 rfl) ?_
  refine W.objInit hx hb hown (hts _ q96) (hts _ q11) (hts _ q12) rfl (by rw [hml]; exact hl.1) rfl dX2_init_1 (Nat.le_of_ble_eq_true rfl) (Nat.le_of_ble_eq_true rfl) ?_
  refine W.eq (g2 := F0 m0 4 ls []) rfl ?_
  refine lv_aload_n hx hb dX2_init_4 rfl (lv_at hl 0 rfl) ?_
  refine lv_sipush (v := nI 128) hx hb dX2_init_5 (by decide) ?_
  refine ls_newa (N := 128) hx hb (hts _ q33) hK hP hD hS hA (by decide) (Nat.le_of_ble_eq_true rfl) (Nat.le_of_ble_eq_true rfl) dX2_init_8 (fun b1 H hP hD hS => ?_)
  have hP : va_P (dC, dI) vwCl ([(h0, .inr (2, [.null, .null, .int (nI 0), .int (nI 0), .null])), (b1, .inl (d, 128, .inl (fun _ => 0)))]) H := hP
  have hD : va_D A ([(h0, .inr (2, [.null, .null, .int (nI 0), .int (nI 0), .null])), (b1, .inl (d, 128, .inl (fun _ => 0)))]) := hD
  refine va_putF (D := (dC, dI)) (ci := 2) (v := .ref b1) (ty := (.array .int)) (C := RX2) (T := TX2) (N := 5) hx hb hts in_X2 tyX2 tyX2_ok nmX2 hown hK hP hD hS 0 rfl rfl 0 (by decide) (hts _ q97) (fun _ h9 => h9) rfl hin rfl (by decide +kernel) rfl rfl (Nat.le_of_ble_eq_true rfl) dX2_init_10 (fun H locs hP hD hS => ?_)
  have hP : va_P (dC, dI) vwCl ([(h0, .inr (2, [.ref b1, .null, .int (nI 0), .int (nI 0), .null])), (b1, .inl (d, 128, .inl (fun _ => 0)))]) H := hP
  have hD : va_D A ([(h0, .inr (2, [.ref b1, .null, .int (nI 0), .int (nI 0), .null])), (b1, .inl (d, 128, .inl (fun _ => 0)))]) := hD
  refine lv_aload_n hx hb dX2_init_13 rfl (lv_at hl 0 rfl) ?_
  refine lv_sipush (v := nI 128) hx hb dX2_init_14 (by decide) ?_
  refine ls_newa (N := 128) hx hb (hts _ q33) hK hP hD hS hA (by decide) (Nat.le_of_ble_eq_true rfl) (Nat.le_of_ble_eq_true rfl) dX2_init_17 (fun b2 H hP hD hS => ?_)
  have hP : va_P (dC, dI) vwCl ([(h0, .inr (2, [.ref b1, .null, .int (nI 0), .int (nI 0), .null])), (b1, .inl (d, 128, .inl (fun _ => 0))), (b2, .inl (d, 128, .inl (fun _ => 0)))]) H := hP
  have hD : va_D A ([(h0, .inr (2, [.ref b1, .null, .int (nI 0), .int (nI 0), .null])), (b1, .inl (d, 128, .inl (fun _ => 0))), (b2, .inl (d, 128, .inl (fun _ => 0)))]) := hD
  refine va_putF (D := (dC, dI)) (ci := 2) (v := .ref b2) (ty := (.array .int)) (C := RX2) (T := TX2) (N := 5) hx hb hts in_X2 tyX2 tyX2_ok nmX2 hown hK hP hD hS 0 rfl rfl 1 (by decide) (hts _ q98) (fun _ h9 => h9) rfl hin rfl (by decide +kernel) rfl rfl (Nat.le_of_ble_eq_true rfl) dX2_init_19 (fun H locs hP hD hS => ?_)
  have hP : va_P (dC, dI) vwCl ([(h0, .inr (2, [.ref b1, .ref b2, .int (nI 0), .int (nI 0), .null])), (b1, .inl (d, 128, .inl (fun _ => 0))), (b2, .inl (d, 128, .inl (fun _ => 0)))]) H := hP
  have hD : va_D A ([(h0, .inr (2, [.ref b1, .ref b2, .int (nI 0), .int (nI 0), .null])), (b1, .inl (d, 128, .inl (fun _ => 0))), (b2, .inl (d, 128, .inl (fun _ => 0)))]) := hD
  refine lv_aload_n hx hb dX2_init_22 rfl (lv_at hl 0 rfl) ?_
  refine lv_sipush (v := nI 129) hx hb dX2_init_23 (by decide) ?_
  refine ls_newa (N := 129) hx hb (hts _ q33) hK hP hD hS hA (by decide) (Nat.le_of_ble_eq_true rfl) (Nat.le_of_ble_eq_true rfl) dX2_init_26 (fun b3 H hP hD hS => ?_)
  have hP : va_P (dC, dI) vwCl ([(h0, .inr (2, [.ref b1, .ref b2, .int (nI 0), .int (nI 0), .null])), (b1, .inl (d, 128, .inl (fun _ => 0))), (b2, .inl (d, 128, .inl (fun _ => 0))), (b3, .inl (d, 129, .inl (fun _ => 0)))]) H := hP
  have hD : va_D A ([(h0, .inr (2, [.ref b1, .ref b2, .int (nI 0), .int (nI 0), .null])), (b1, .inl (d, 128, .inl (fun _ => 0))), (b2, .inl (d, 128, .inl (fun _ => 0))), (b3, .inl (d, 129, .inl (fun _ => 0)))]) := hD
  refine va_putF (D := (dC, dI)) (ci := 2) (v := .ref b3) (ty := (.array .int)) (C := RX2) (T := TX2) (N := 5) hx hb hts in_X2 tyX2 tyX2_ok nmX2 hown hK hP hD hS 0 rfl rfl 4 (by decide) (hts _ q101) (fun _ h9 => h9) rfl hin rfl (by decide +kernel) rfl rfl (Nat.le_of_ble_eq_true rfl) dX2_init_28 (fun H locs hP hD hS => ?_)
  have hP : va_P (dC, dI) vwCl ([(h0, .inr (2, [.ref b1, .ref b2, .int (nI 0), .int (nI 0), .ref b3])), (b1, .inl (d, 128, .inl (fun _ => 0))), (b2, .inl (d, 128, .inl (fun _ => 0))), (b3, .inl (d, 129, .inl (fun _ => 0)))]) H := hP
  have hD : va_D A ([(h0, .inr (2, [.ref b1, .ref b2, .int (nI 0), .int (nI 0), .ref b3])), (b1, .inl (d, 128, .inl (fun _ => 0))), (b2, .inl (d, 128, .inl (fun _ => 0))), (b3, .inl (d, 129, .inl (fun _ => 0)))]) := hD
  have hP : va_P (dC, dI) vwCl (mdW d (g4 h0 b1 b2 b3) (fun _ => 0) (fun _ => 0) (fun _ => 0) 0 0) H := hP
  have hD : va_D A (mdW d (g4 h0 b1 b2 b3) (fun _ => 0) (fun _ => 0) (fun _ => 0) 0 0) := hD
  refine W.widen (k := 3) (n := 385) (Nat.le_of_ble_eq_true rfl) (Nat.le_of_ble_eq_true rfl) ?_
  exact W.vret hx hb hr (fun t ht hW => ⟨⟨(g4 h0 b1 b2 b3), rfl, rfl, by rw [ht]; exact hP, va_K.moved hW.alike hK, hD⟩, hS.F ht⟩) hS.2.2 dX2_init_31
set_option maxHeartbeats 4000000 in
set_option maxRecDepth 100000 in
/-- LeastScriptModel.clear(): no line at all -/
theorem met_mclear (l : Launch) (dC : Nat → ClassId) (dI : Nat → Nat → Nat) (d : ClassId) (g : Nat → Nat) (a b r : Nat → Int32) (n m : Nat) (sz : Nat) : Met l yX2_clear (ws_ yX2_clear cX2_clear 1 none) ({ frames := 0, cells := 0, slots := 0, locals := 0 }) (cPre dC dI d [.ref (g 0)] sz (mdW d g a b r n m)) (va_Qv (fun (_ : Unit) => True) (cB dC dI d (va_A (mdW d g a b r n m) sz) (fun _ => mdW d g a b r 0 0)) (va_A (mdW d g a b r n m) sz)) 0 0 (va_A (mdW d g a b r n m) sz) := by
  refine Met.ofW (cc := cX2_clear) (maxL := 1) (ret := none) (by decide) rfl ?_
  intro p e s m0 args below meth c s₁ B hml hv
  obtain ⟨rfl, hsz, hP, hK, hD0⟩ := hv
  have hx := B.exec
  have hb := B.bytes
  have hr := B.returns
  have hts := atoms_spec (ws := ws_ yX2_clear cX2_clear 1 none) B.pre
  have hts : ∀ w ∈ lw_all, w.before _ s = true := fun w h => hts w (List.mem_cons_of_mem _ h)
  have hown : s.vm.findClass RX2 = some m0.cls := findClass_of_methodNamed B.named
  have hlocks := B.notSynchronized
  subst hsz
  have hD := hD0.self (sz := s.heap.size)
  generalize hAe : va_A (mdW d g a b r n m) s.heap.size = A at hD ⊢
  have hA : ∀ q : Nat, s.heap.size ≤ q → A q := fun q h => by rw [← hAe]; exact Or.inr h
  have hS : va_S A s.heap s.heap [] := va_S.rf
  have hP : va_P (dC, dI) vwCl (mdW d g a b r n m) s.heap := hP
  have hl := lv_entry ([.ref (g 0)]) (n := 1) (Nat.le_of_ble_eq_true rfl)
  rw [lg_entry_eq]
  generalize (lg_sl ([.ref (g 0)]) ++ List.replicate (1 - (lg_sl ([.ref (g 0)])).length) Slot.unset).toArray = ls at hl ⊢
  have hl : lv_has ls 1 [(0, .ref (g 0))] := hl
  refine lv_aload_n hx hb dX2_clear_0 rfl (lv_at hl 0 rfl) ?_
  refine lv_iconst (v := nI 0) hx hb dX2_clear_1 (by decide) ?_
  refine va_put (D := (dC, dI)) (ci := 2) (v := .int (nI 0)) (ty := .int) (C := RX2) (T := TX2) (N := 5) hx hb hts in_X2 tyX2 tyX2_ok nmX2 hown hK hP hD hS 0 rfl rfl 2 (by decide) (hts _ q99) (fun _ h9 => h9) rfl (by decide +kernel) rfl rfl (Nat.le_of_ble_eq_true rfl) dX2_clear_2 (fun H locs hP hD hS => ?_)
  have hP : va_P (dC, dI) vwCl (mdW d g a b r 0 m) H := hP
  have hD : va_D A (mdW d g a b r 0 m) := hD
  refine lv_aload_n hx hb dX2_clear_5 rfl (lv_at hl 0 rfl) ?_
  refine lv_iconst (v := nI 0) hx hb dX2_clear_6 (by decide) ?_
  refine va_put (D := (dC, dI)) (ci := 2) (v := .int (nI 0)) (ty := .int) (C := RX2) (T := TX2) (N := 5) hx hb hts in_X2 tyX2 tyX2_ok nmX2 hown hK hP hD hS 0 rfl rfl 3 (by decide) (hts _ q100) (fun _ h9 => h9) rfl (by decide +kernel) rfl rfl (Nat.le_of_ble_eq_true rfl) dX2_clear_7 (fun H locs hP hD hS => ?_)
  have hP : va_P (dC, dI) vwCl (mdW d g a b r 0 0) H := hP
  have hD : va_D A (mdW d g a b r 0 0) := hD
  exact W.vret hx hb hr (fun t ht hW => ⟨⟨(), rfl, trivial, by rw [ht]; exact hP, va_K.moved hW.alike hK, hD⟩, hS.F ht⟩) hS.2.2 dX2_clear_10
set_option maxHeartbeats 4000000 in
set_option maxRecDepth 100000 in
/-- LeastScriptModel.left(w) -/
theorem met_mleft (l : Launch) (dC : Nat → ClassId) (dI : Nat → Nat → Nat) (d : ClassId) (g : Nat → Nat) (a b r : Nat → Int32) (n m : Nat) (w : Int32) (sz : Nat) (hn : n ≤ 128) (hm : m ≤ 128) : Met l yX2_left (ws_ yX2_left cX2_left 2 (some .boolean)) ({ frames := 0, cells := 0, slots := 0, locals := 0 }) (cPre dC dI d [.ref (g 0), .int w] sz (mdW d g a b r n m)) (va_Qi (fun (r2 : Int32) (u : (Nat → Int32) × Nat) => (n = 128 ∧ r2 = 0 ∧ u.1 = a ∧ u.2 = n) ∨ (n < 128 ∧ r2 = 1 ∧ u.1 = upd a n w ∧ u.2 = n + 1)) (cB dC dI d (va_A (mdW d g a b r n m) sz) (fun u => mdW d g u.1 b r u.2 m)) (va_A (mdW d g a b r n m) sz)) 0 0 (va_A (mdW d g a b r n m) sz) := by
  refine Met.ofW (cc := cX2_left) (maxL := 2) (ret := (some .boolean)) (by decide) rfl ?_
  intro p e s m0 args below meth c s₁ B hml hv
  obtain ⟨rfl, hsz, hP, hK, hD0⟩ := hv
  have hx := B.exec
  have hb := B.bytes
  have hr := B.returns
  have hts := atoms_spec (ws := ws_ yX2_left cX2_left 2 (some .boolean)) B.pre
  have hts : ∀ w ∈ lw_all, w.before _ s = true := fun w h => hts w (List.mem_cons_of_mem _ h)
  have hown : s.vm.findClass RX2 = some m0.cls := findClass_of_methodNamed B.named
  have hlocks := B.notSynchronized
  subst hsz
  have hD := hD0.self (sz := s.heap.size)
  generalize hAe : va_A (mdW d g a b r n m) s.heap.size = A at hD ⊢
  have hA : ∀ q : Nat, s.heap.size ≤ q → A q := fun q h => by rw [← hAe]; exact Or.inr h
  have hS : va_S A s.heap s.heap [] := va_S.rf
  have hP : va_P (dC, dI) vwCl (mdW d g a b r n m) s.heap := hP
  have hl := lv_entry ([.ref (g 0), .int w]) (n := 2) (Nat.le_of_ble_eq_true rfl)
  rw [lg_entry_eq]
  generalize (lg_sl ([.ref (g 0), .int w]) ++ List.replicate (2 - (lg_sl ([.ref (g 0), .int w])).length) Slot.unset).toArray = ls at hl ⊢
  have hl : lv_has ls 2 [(0, .ref (g 0)), (1, .int w)] := hl
  refine lv_aload_n hx hb dX2_left_0 rfl (lv_at hl 0 rfl) ?_
  refine va_get (D := (dC, dI)) (ci := 2) (v := .int (nI n)) (C := RX2) (T := TX2) (N := 5) hx hb hts in_X2 hown hK hP 0 rfl rfl 2 (by decide) (hts _ q99) (fun _ h9 => h9) rfl dX2_left_1 ?_
  refine lv_sipush (v := nI 128) hx hb dX2_left_4 (by decide) ?_
  refine ls_ne (x := n) (y := 128) (tgt := 12) hx hb (by omega) (by omega) dX2_left_7 (by decide) (fun hc => ?_) (fun hc => ?_)
  · have hc2 : n < 128 := by omega
    refine lv_aload_n hx hb dX2_left_12 rfl (lv_at hl 0 rfl) ?_
    refine va_get (D := (dC, dI)) (ci := 2) (v := .ref (g 1)) (C := RX2) (T := TX2) (N := 5) hx hb hts in_X2 hown hK hP 0 rfl rfl 0 (by decide) (hts _ q97) (fun _ h9 => h9) rfl dX2_left_13 ?_
    refine lv_aload_n hx hb dX2_left_16 rfl (lv_at hl 0 rfl) ?_
    refine va_get (D := (dC, dI)) (ci := 2) (v := .int (nI n)) (C := RX2) (T := TX2) (N := 5) hx hb hts in_X2 hown hK hP 0 rfl rfl 2 (by decide) (hts _ q99) (fun _ h9 => h9) rfl dX2_left_17 ?_
    refine lv_iload_n hx hb dX2_left_20 rfl (lv_at hl 1 rfl) ?_
    refine ls_ast (k := n) hx hb hK hP hD hS 1 rfl (hc2) (by decide) dX2_left_21 (fun H locs hP hD hS => ?_)
    have hP : va_P (dC, dI) vwCl (mdW d g (upd a n w) b r n m) H := hP
    have hD : va_D A (mdW d g (upd a n w) b r n m) := hD
    refine lv_aload_n hx hb dX2_left_22 rfl (lv_at hl 0 rfl) ?_
    refine lv_aload_n hx hb dX2_left_23 rfl (lv_at hl 0 rfl) ?_
    refine va_get (D := (dC, dI)) (ci := 2) (v := .int (nI n)) (C := RX2) (T := TX2) (N := 5) hx hb hts in_X2 hown hK hP 0 rfl rfl 2 (by decide) (hts _ q99) (fun _ h9 => h9) rfl dX2_left_24 ?_
    refine lv_iconst (v := nI 1) hx hb dX2_left_27 (by decide) ?_
    refine lv_iadd hx hb dX2_left_28 ?_
    refine ls_top (nI_add n 1) ?_
    refine va_put (D := (dC, dI)) (ci := 2) (v := .int (nI (n + 1))) (ty := .int) (C := RX2) (T := TX2) (N := 5) hx hb hts in_X2 tyX2 tyX2_ok nmX2 hown hK hP hD hS 0 rfl rfl 2 (by decide) (hts _ q99) (fun _ h9 => h9) rfl (by decide +kernel) rfl rfl (Nat.le_of_ble_eq_true rfl) dX2_left_29 (fun H locs hP hD hS => ?_)
    have hP : va_P (dC, dI) vwCl (mdW d g (upd a n w) b r (n + 1) m) H := hP
    have hD : va_D A (mdW d g (upd a n w) b r (n + 1) m) := hD
    refine lv_iconst (v := 1) hx hb dX2_left_32 (by decide) ?_
    exact W.zret (v := 1) hx hb hr rfl (fun t ht hW => ⟨⟨1, (upd a n w, n + 1), rfl, Or.inr ⟨hc2, rfl, rfl, rfl⟩, by rw [ht]; exact hP, va_K.moved hW.alike hK, hD⟩, hS.F ht⟩) hS.2.2 dX2_left_33
  · refine lv_iconst (v := 0) hx hb dX2_left_10 (by decide) ?_
    exact W.zret (v := 0) hx hb hr rfl (fun t ht hW => ⟨⟨0, (a, n), rfl, Or.inl ⟨hc, rfl, rfl, rfl⟩, by rw [ht]; exact hP, va_K.moved hW.alike hK, hD⟩, hS.F ht⟩) hS.2.2 dX2_left_11
set_option maxHeartbeats 4000000 in
set_option maxRecDepth 100000 in
/-- LeastScriptModel.right(w) -/
theorem met_mright (l : Launch) (dC : Nat → ClassId) (dI : Nat → Nat → Nat) (d : ClassId) (g : Nat → Nat) (a b r : Nat → Int32) (n m : Nat) (w : Int32) (sz : Nat) (hn : n ≤ 128) (hm : m ≤ 128) : Met l yX2_right (ws_ yX2_right cX2_right 2 (some .boolean)) ({ frames := 0, cells := 0, slots := 0, locals := 0 }) (cPre dC dI d [.ref (g 0), .int w] sz (mdW d g a b r n m)) (va_Qi (fun (r2 : Int32) (u : (Nat → Int32) × Nat) => (m = 128 ∧ r2 = 0 ∧ u.1 = b ∧ u.2 = m) ∨ (m < 128 ∧ r2 = 1 ∧ u.1 = upd b m w ∧ u.2 = m + 1)) (cB dC dI d (va_A (mdW d g a b r n m) sz) (fun u => mdW d g a u.1 r n u.2)) (va_A (mdW d g a b r n m) sz)) 0 0 (va_A (mdW d g a b r n m) sz) := by
  refine Met.ofW (cc := cX2_right) (maxL := 2) (ret := (some .boolean)) (by decide) rfl ?_
  intro p e s m0 args below meth c s₁ B hml hv
  obtain ⟨rfl, hsz, hP, hK, hD0⟩ := hv
  have hx := B.exec
  have hb := B.bytes
  have hr := B.returns
  have hts := atoms_spec (ws := ws_ yX2_right cX2_right 2 (some .boolean)) B.pre
  have hts : ∀ w ∈ lw_all, w.before _ s = true := fun w h => hts w (List.mem_cons_of_mem _ h)
  have hown : s.vm.findClass RX2 = some m0.cls := findClass_of_methodNamed B.named
  have hlocks := B.notSynchronized
  subst hsz
  have hD := hD0.self (sz := s.heap.size)
  generalize hAe : va_A (mdW d g a b r n m) s.heap.size = A at hD ⊢
  have hA : ∀ q : Nat, s.heap.size ≤ q → A q := fun q h => by rw [← hAe]; exact Or.inr h
  have hS : va_S A s.heap s.heap [] := va_S.rf
  have hP : va_P (dC, dI) vwCl (mdW d g a b r n m) s.heap := hP
  have hl := lv_entry ([.ref (g 0), .int w]) (n := 2) (Nat.le_of_ble_eq_true rfl)
  rw [lg_entry_eq]
  generalize (lg_sl ([.ref (g 0), .int w]) ++ List.replicate (2 - (lg_sl ([.ref (g 0), .int w])).length) Slot.unset).toArray = ls at hl ⊢
  have hl : lv_has ls 2 [(0, .ref (g 0)), (1, .int w)] := hl
  refine lv_aload_n hx hb dX2_right_0 rfl (lv_at hl 0 rfl) ?_
  refine va_get (D := (dC, dI)) (ci := 2) (v := .int (nI m)) (C := RX2) (T := TX2) (N := 5) hx hb hts in_X2 hown hK hP 0 rfl rfl 3 (by decide) (hts _ q100) (fun _ h9 => h9) rfl dX2_right_1 ?_
  refine lv_sipush (v := nI 128) hx hb dX2_right_4 (by decide) ?_
  refine ls_ne (x := m) (y := 128) (tgt := 12) hx hb (by omega) (by omega) dX2_right_7 (by decide) (fun hc => ?_) (fun hc => ?_)
  · have hc2 : m < 128 := by omega
    refine lv_aload_n hx hb dX2_right_12 rfl (lv_at hl 0 rfl) ?_
    refine va_get (D := (dC, dI)) (ci := 2) (v := .ref (g 2)) (C := RX2) (T := TX2) (N := 5) hx hb hts in_X2 hown hK hP 0 rfl rfl 1 (by decide) (hts _ q98) (fun _ h9 => h9) rfl dX2_right_13 ?_
    refine lv_aload_n hx hb dX2_right_16 rfl (lv_at hl 0 rfl) ?_
    refine va_get (D := (dC, dI)) (ci := 2) (v := .int (nI m)) (C := RX2) (T := TX2) (N := 5) hx hb hts in_X2 hown hK hP 0 rfl rfl 3 (by decide) (hts _ q100) (fun _ h9 => h9) rfl dX2_right_17 ?_
    refine lv_iload_n hx hb dX2_right_20 rfl (lv_at hl 1 rfl) ?_
    refine ls_ast (k := m) hx hb hK hP hD hS 2 rfl (hc2) (by decide) dX2_right_21 (fun H locs hP hD hS => ?_)
    have hP : va_P (dC, dI) vwCl (mdW d g a (upd b m w) r n m) H := hP
    have hD : va_D A (mdW d g a (upd b m w) r n m) := hD
    refine lv_aload_n hx hb dX2_right_22 rfl (lv_at hl 0 rfl) ?_
    refine lv_aload_n hx hb dX2_right_23 rfl (lv_at hl 0 rfl) ?_
    refine va_get (D := (dC, dI)) (ci := 2) (v := .int (nI m)) (C := RX2) (T := TX2) (N := 5) hx hb hts in_X2 hown hK hP 0 rfl rfl 3 (by decide) (hts _ q100) (fun _ h9 => h9) rfl dX2_right_24 ?_
    refine lv_iconst (v := nI 1) hx hb dX2_right_27 (by decide) ?_
    refine lv_iadd hx hb dX2_right_28 ?_
    refine ls_top (nI_add m 1) ?_
    refine va_put (D := (dC, dI)) (ci := 2) (v := .int (nI (m + 1))) (ty := .int) (C := RX2) (T := TX2) (N := 5) hx hb hts in_X2 tyX2 tyX2_ok nmX2 hown hK hP hD hS 0 rfl rfl 3 (by decide) (hts _ q100) (fun _ h9 => h9) rfl (by decide +kernel) rfl rfl (Nat.le_of_ble_eq_true rfl) dX2_right_29 (fun H locs hP hD hS => ?_)
    have hP : va_P (dC, dI) vwCl (mdW d g a (upd b m w) r n (m + 1)) H := hP
    have hD : va_D A (mdW d g a (upd b m w) r n (m + 1)) := hD
    refine lv_iconst (v := 1) hx hb dX2_right_32 (by decide) ?_
    exact W.zret (v := 1) hx hb hr rfl (fun t ht hW => ⟨⟨1, (upd b m w, m + 1), rfl, Or.inr ⟨hc2, rfl, rfl, rfl⟩, by rw [ht]; exact hP, va_K.moved hW.alike hK, hD⟩, hS.F ht⟩) hS.2.2 dX2_right_33
  · refine lv_iconst (v := 0) hx hb dX2_right_10 (by decide) ?_
    exact W.zret (v := 0) hx hb hr rfl (fun t ht hW => ⟨⟨0, (b, m), rfl, Or.inl ⟨hc, rfl, rfl, rfl⟩, by rw [ht]; exact hP, va_K.moved hW.alike hK, hD⟩, hS.F ht⟩) hS.2.2 dX2_right_11
set_option maxHeartbeats 4000000 in
set_option maxRecDepth 100000 in
/-- LeastScriptModel.copy, its loop at the head: i lines copied -/
theorem mc_loop {p : Program} {l : Launch} {e : Env} {R : Room} {s : State} {m0 : MethodId} {args : Array Value} {below : List Frame} {meth : Method} {c : Code} {cells slots : Nat} {Q : State → Prop} {dC : Nat → ClassId} {dI : Nat → Nat → Nat} {d : ClassId} {A : Nat → Prop} {g : Nat → Nat} {a b r : Nat → Int32} {n m f K : Nat} (hx : p.tables.exec = Jvm.exec) (hb : c.code = cX2_copy) (hts : ∀ w ∈ lw_all, w.before args s = true) (hown : s.vm.findClass RX2 = some m0.cls) (hK : va_K (dC, dI) vwCl [(d, .int)] s) (hn : n ≤ 128) (hf : f + K ≤ n) (hk : m + K ≤ 128)
    (hend : ∀ (H : Heap) (locs : List Loc) (ls : Array Slot), va_P (dC, dI) vwCl (mdW d g a (cp_B a b f m K) r n (m + K)) H → va_D A (mdW d g a (cp_B a b f m K) r n (m + K)) → va_S A s.heap H locs → lv_has ls 6 [(0, .ref (g 0)), (4, .int (nI K))] → W p l e R s m0 args below meth c H locs cells slots Q (F0 m0 114 ls [])) :
    ∀ (z i : Nat) (H : Heap) (locs : List Loc) (ls : Array Slot), i ≤ K → K + 1 ≤ i + z → va_P (dC, dI) vwCl (mdW d g a (cp_B a b f m i) r n (m + i)) H → va_D A (mdW d g a (cp_B a b f m i) r n (m + i)) → va_S A s.heap H locs → lv_has ls 6 [(0, .ref (g 0)), (3, .int (nI f)), (4, .int (nI K)), (5, .int (nI i))] → W p l e R s m0 args below meth c H locs cells slots Q (F0 m0 73 ls []) := by
  intro z
  induction z with
  | zero =>
    intro i H locs ls h1 h2
    exact absurd h2 (by omega)
  | succ z ih =>
    intro i H locs ls hi hin hP hD hS hl
    refine lv_iload hx hb dX2_copy_73 (lv_at hl 3 rfl) ?_
    refine lv_iload hx hb dX2_copy_75 (lv_at hl 2 rfl) ?_
    refine ls_ge (x := i) (y := K) (tgt := 114) hx hb (by omega) (by omega) dX2_copy_77 (by decide) (fun hc => ?_) (fun hc => ?_)
    · obtain rfl : i = K := by omega
      exact hend H locs ls hP hD hS (lv_sub hl [0, 2] rfl)
    · refine lv_aload_n hx hb dX2_copy_80 rfl (lv_at hl 0 rfl) ?_
      refine va_get (D := (dC, dI)) (ci := 2) (v := .ref (g 2)) (C := RX2) (T := TX2) (N := 5) hx hb hts in_X2 hown hK hP 0 rfl rfl 1 (by decide) (hts _ q98) (fun _ h9 => h9) rfl dX2_copy_81 ?_
      refine lv_aload_n hx hb dX2_copy_84 rfl (lv_at hl 0 rfl) ?_
      refine va_get (D := (dC, dI)) (ci := 2) (v := .int (nI (m + i))) (C := RX2) (T := TX2) (N := 5) hx hb hts in_X2 hown hK hP 0 rfl rfl 3 (by decide) (hts _ q100) (fun _ h9 => h9) rfl dX2_copy_85 ?_
      refine lv_aload_n hx hb dX2_copy_88 rfl (lv_at hl 0 rfl) ?_
      refine va_get (D := (dC, dI)) (ci := 2) (v := .ref (g 1)) (C := RX2) (T := TX2) (N := 5) hx hb hts in_X2 hown hK hP 0 rfl rfl 0 (by decide) (hts _ q97) (fun _ h9 => h9) rfl dX2_copy_89 ?_
      refine lv_iload_n hx hb dX2_copy_92 rfl (lv_at hl 1 rfl) ?_
      refine lv_iload hx hb dX2_copy_93 (lv_at hl 3 rfl) ?_
      refine lv_iadd hx hb dX2_copy_95 ?_
      refine ls_top (nI_add f i) ?_
      refine ls_ald (k := (f + i)) (v := a (f + i)) hx hb hK hP 1 rfl (by omega) (by decide) (rfl) dX2_copy_96 ?_
      refine ls_ast (k := (m + i)) hx hb hK hP hD hS 2 rfl (by omega) (by decide) dX2_copy_97 (fun H locs hP hD hS => ?_)
      have hP : va_P (dC, dI) vwCl (mdW d g a (upd (cp_B a b f m i) (m + i) (a (f + i))) r n (m + i)) H := hP
      have hD : va_D A (mdW d g a (upd (cp_B a b f m i) (m + i) (a (f + i))) r n (m + i)) := hD
      refine lv_aload_n hx hb dX2_copy_98 rfl (lv_at hl 0 rfl) ?_
      refine lv_aload_n hx hb dX2_copy_99 rfl (lv_at hl 0 rfl) ?_
      refine va_get (D := (dC, dI)) (ci := 2) (v := .int (nI (m + i))) (C := RX2) (T := TX2) (N := 5) hx hb hts in_X2 hown hK hP 0 rfl rfl 3 (by decide) (hts _ q100) (fun _ h9 => h9) rfl dX2_copy_100 ?_
      refine lv_iconst (v := nI 1) hx hb dX2_copy_103 (by decide) ?_
      refine lv_iadd hx hb dX2_copy_104 ?_
      refine ls_top (nI_add (m + i) 1) ?_
      refine va_put (D := (dC, dI)) (ci := 2) (v := .int (nI ((m + i) + 1))) (ty := .int) (C := RX2) (T := TX2) (N := 5) hx hb hts in_X2 tyX2 tyX2_ok nmX2 hown hK hP hD hS 0 rfl rfl 3 (by decide) (hts _ q100) (fun _ h9 => h9) rfl (by decide +kernel) rfl rfl (Nat.le_of_ble_eq_true rfl) dX2_copy_105 (fun H locs hP hD hS => ?_)
      have hP : va_P (dC, dI) vwCl (mdW d g a (upd (cp_B a b f m i) (m + i) (a (f + i))) r n ((m + i) + 1)) H := hP
      have hD : va_D A (mdW d g a (upd (cp_B a b f m i) (m + i) (a (f + i))) r n ((m + i) + 1)) := hD
      refine lv_iinc (v := nI (i + 1)) (lv' := [(5, .int (nI (i + 1))), (0, .ref (g 0)), (3, .int (nI f)), (4, .int (nI K))]) hx hb dX2_copy_108 hl (k := 3) rfl (ls_inc i) (by decide) rfl (fun ls hl => ?_)
      refine lv_goto (tgt := 73) hx hb dX2_copy_111 (by decide) ?_
      exact ih (i + 1) H locs ls (by omega) (by omega) hP hD hS (lv_sub hl [1, 2, 3, 0] rfl)
set_option maxHeartbeats 4000000 in
set_option maxRecDepth 100000 in
/-- LeastScriptModel.copy(from, count) -/
theorem met_mcopy (l : Launch) (dC : Nat → ClassId) (dI : Nat → Nat → Nat) (d : ClassId) (g : Nat → Nat) (a b r : Nat → Int32) (n m : Nat) (fr ct : Int32) (sz : Nat) (hn : n ≤ 128) (hm : m ≤ 128) : Met l yX2_copy (ws_ yX2_copy cX2_copy 6 (some .int)) ({ frames := 0, cells := 0, slots := 0, locals := 0 }) (cPre dC dI d [.ref (g 0), .int fr, .int ct] sz (mdW d g a b r n m)) (va_Qi (fun (r2 : Int32) (u : (Nat → Int32) × Nat) => (n = 0 ∧ r2 = -1 ∧ u.1 = b ∧ u.2 = m) ∨ (0 < n ∧ r2 = nI (cp_K n m (cp_f fr % n) (cp_f ct % 33)) ∧ u.1 = cp_B a b (cp_f fr % n) m (cp_K n m (cp_f fr % n) (cp_f ct % 33)) ∧ u.2 = m + cp_K n m (cp_f fr % n) (cp_f ct % 33))) (cB dC dI d (va_A (mdW d g a b r n m) sz) (fun u => mdW d g a u.1 r n u.2)) (va_A (mdW d g a b r n m) sz)) 0 0 (va_A (mdW d g a b r n m) sz) := by
  refine Met.ofW (cc := cX2_copy) (maxL := 6) (ret := (some .int)) (by decide) rfl ?_
  intro p e s m0 args below meth c s₁ B hml hv
  obtain ⟨rfl, hsz, hP, hK, hD0⟩ := hv
  have hx := B.exec
  have hb := B.bytes
  have hr := B.returns
  have hts := atoms_spec (ws := ws_ yX2_copy cX2_copy 6 (some .int)) B.pre
  have hts : ∀ w ∈ lw_all, w.before _ s = true := fun w h => hts w (List.mem_cons_of_mem _ h)
  have hown : s.vm.findClass RX2 = some m0.cls := findClass_of_methodNamed B.named
  have hlocks := B.notSynchronized
  subst hsz
  have hD := hD0.self (sz := s.heap.size)
  generalize hAe : va_A (mdW d g a b r n m) s.heap.size = A at hD ⊢
  have hA : ∀ q : Nat, s.heap.size ≤ q → A q := fun q h => by rw [← hAe]; exact Or.inr h
  have hS : va_S A s.heap s.heap [] := va_S.rf
  have hP : va_P (dC, dI) vwCl (mdW d g a b r n m) s.heap := hP
  have hl := lv_entry ([.ref (g 0), .int fr, .int ct]) (n := 6) (Nat.le_of_ble_eq_true rfl)
  rw [lg_entry_eq]
  generalize (lg_sl ([.ref (g 0), .int fr, .int ct]) ++ List.replicate (6 - (lg_sl ([.ref (g 0), .int fr, .int ct])).length) Slot.unset).toArray = ls at hl ⊢
  have hl : lv_has ls 6 [(0, .ref (g 0)), (1, .int fr), (2, .int ct)] := hl
  refine lv_aload_n hx hb dX2_copy_0 rfl (lv_at hl 0 rfl) ?_
  refine va_get (D := (dC, dI)) (ci := 2) (v := .int (nI n)) (C := RX2) (T := TX2) (N := 5) hx hb hts in_X2 hown hK hP 0 rfl rfl 2 (by decide) (hts _ q99) (fun _ h9 => h9) rfl dX2_copy_1 ?_
  refine lv_if_ne (tgt := 9) hx hb dX2_copy_4 (by decide) (fun hc => ?_) (fun hc => ?_)
  · have hn0 : 0 < n := by
      rcases Nat.eq_zero_or_pos n with q | q
      · rw [q] at hc
        exact absurd nI_0 hc
      · exact q
    have hf : cp_f fr % n < n := Nat.mod_lt _ hn0
    refine lv_iload_n hx hb dX2_copy_9 rfl (lv_at hl 1 rfl) ?_
    refine lv_ldc (v := 2147483647) hx hb hown (hts _ q125) dX2_copy_10 ?_
    refine lv_iand hx hb dX2_copy_12 ?_
    refine ls_top (cp_f_eq fr) ?_
    refine lv_aload_n hx hb dX2_copy_13 rfl (lv_at hl 0 rfl) ?_
    refine va_get (D := (dC, dI)) (ci := 2) (v := .int (nI n)) (C := RX2) (T := TX2) (N := 5) hx hb hts in_X2 hown hK hP 0 rfl rfl 2 (by decide) (hts _ q99) (fun _ h9 => h9) rfl dX2_copy_14 ?_
    refine lv_irem hx hb dX2_copy_17 (nI_ne0 (hn0) (by omega)) ?_
    refine ls_top (pk_rem (a := (cp_f fr)) (d := n) (cp_f_lt fr) (hn0) (by omega)) ?_
    refine lv_istore_n (lv' := [(3, .int (nI ((cp_f fr) % n))), (0, .ref (g 0)), (1, .int fr), (2, .int ct)]) hx hb dX2_copy_18 rfl hl (by decide) rfl (fun ls hl => ?_)
    refine lv_iload_n hx hb dX2_copy_19 rfl (lv_at hl 3 rfl) ?_
    refine lv_ldc (v := 2147483647) hx hb hown (hts _ q125) dX2_copy_20 ?_
    refine lv_iand hx hb dX2_copy_22 ?_
    refine ls_top (cp_f_eq ct) ?_
    refine lv_bipush (v := nI 33) hx hb dX2_copy_23 (by decide) ?_
    refine lv_irem hx hb dX2_copy_25 (nI_ne0 (by decide) (by omega)) ?_
    refine ls_top (pk_rem (a := (cp_f ct)) (d := 33) (cp_f_lt ct) (by decide) (by omega)) ?_
    refine lv_istore (lv' := [(4, .int (nI ((cp_f ct) % 33))), (3, .int (nI ((cp_f fr) % n))), (0, .ref (g 0)), (1, .int fr), (2, .int ct)]) hx hb dX2_copy_26 hl (by decide) rfl (fun ls hl => ?_)
    have t70 : ∀ (K : Nat) (ls : Array Slot), K = cp_K n m (cp_f fr % n) (cp_f ct % 33) → lv_has ls 6 [(0, .ref (g 0)), (3, .int (nI (cp_f fr % n))), (4, .int (nI K))] → W p l e (headSpec (ws_ yX2_copy cX2_copy 6 (some .int)) ({ frames := 0, cells := 0, slots := 0, locals := 0 })).room s m0 ([.ref (g 0), .int fr, .int ct] : List Value).toArray below meth c s.heap [] 0 0 (MQ below (va_Qi (fun (r2 : Int32) (u : (Nat → Int32) × Nat) => (n = 0 ∧ r2 = -1 ∧ u.1 = b ∧ u.2 = m) ∨ (0 < n ∧ r2 = nI (cp_K n m (cp_f fr % n) (cp_f ct % 33)) ∧ u.1 = cp_B a b (cp_f fr % n) m (cp_K n m (cp_f fr % n) (cp_f ct % 33)) ∧ u.2 = m + cp_K n m (cp_f fr % n) (cp_f ct % 33))) (cB dC dI d A (fun u => mdW d g a u.1 r n u.2)) A) ([.ref (g 0), .int fr, .int ct] : List Value).toArray s 0 0 A) (F0 m0 70 ls []) := by
      intro K ls eK hl
      have hK1 : cp_f fr % n + K ≤ n := by
        rw [eK]
        unfold cp_K
        omega
      have hK2 : m + K ≤ 128 := by
        rw [eK]
        unfold cp_K
        omega
      refine lv_iconst (v := nI 0) hx hb dX2_copy_70 (by decide) ?_
      refine lv_istore (lv' := [(5, .int (nI 0)), (0, .ref (g 0)), (3, .int (nI (cp_f fr % n))), (4, .int (nI K))]) hx hb dX2_copy_71 hl (by decide) rfl (fun ls hl => ?_)
      refine mc_loop (a := a) (b := b) (m := m) hx hb hts hown hK hn hK1 hK2 (fun H locs ls hP hD hS hl => ?_) (K + 1) 0 s.heap [] ls (Nat.zero_le _) (by omega) hP hD hS (lv_sub hl [1, 2, 3, 0] rfl)
      refine lv_iload hx hb dX2_copy_114 (lv_at hl 1 rfl) ?_
      subst eK
      exact W.iret (v := nI (cp_K n m (cp_f fr % n) (cp_f ct % 33))) hx hb hr (fun t ht hW => ⟨⟨nI (cp_K n m (cp_f fr % n) (cp_f ct % 33)), (cp_B a b (cp_f fr % n) m (cp_K n m (cp_f fr % n) (cp_f ct % 33)), m + cp_K n m (cp_f fr % n) (cp_f ct % 33)), rfl, Or.inr ⟨hn0, rfl, rfl, rfl⟩, by rw [ht]; exact hP, va_K.moved hW.alike hK, hD⟩, hS.F ht⟩) hS.2.2 dX2_copy_116
    have t47 : ∀ (K : Nat) (ls : Array Slot), K = min (cp_f ct % 33) (n - cp_f fr % n) → lv_has ls 6 [(0, .ref (g 0)), (3, .int (nI (cp_f fr % n))), (4, .int (nI K))] → W p l e (headSpec (ws_ yX2_copy cX2_copy 6 (some .int)) ({ frames := 0, cells := 0, slots := 0, locals := 0 })).room s m0 ([.ref (g 0), .int fr, .int ct] : List Value).toArray below meth c s.heap [] 0 0 (MQ below (va_Qi (fun (r2 : Int32) (u : (Nat → Int32) × Nat) => (n = 0 ∧ r2 = -1 ∧ u.1 = b ∧ u.2 = m) ∨ (0 < n ∧ r2 = nI (cp_K n m (cp_f fr % n) (cp_f ct % 33)) ∧ u.1 = cp_B a b (cp_f fr % n) m (cp_K n m (cp_f fr % n) (cp_f ct % 33)) ∧ u.2 = m + cp_K n m (cp_f fr % n) (cp_f ct % 33))) (cB dC dI d A (fun u => mdW d g a u.1 r n u.2)) A) ([.ref (g 0), .int fr, .int ct] : List Value).toArray s 0 0 A) (F0 m0 47 ls []) := by
      intro K ls eK hl
      refine lv_aload_n hx hb dX2_copy_47 rfl (lv_at hl 0 rfl) ?_
      refine va_get (D := (dC, dI)) (ci := 2) (v := .int (nI m)) (C := RX2) (T := TX2) (N := 5) hx hb hts in_X2 hown hK hP 0 rfl rfl 3 (by decide) (hts _ q100) (fun _ h9 => h9) rfl dX2_copy_48 ?_
      refine lv_iload hx hb dX2_copy_51 (lv_at hl 2 rfl) ?_
      refine lv_iadd hx hb dX2_copy_53 ?_
      refine ls_top (nI_add m K) ?_
      refine lv_sipush (v := nI 128) hx hb dX2_copy_54 (by decide) ?_
      refine ls_le (x := (m + K)) (y := 128) (tgt := 70) hx hb (by omega) (by omega) dX2_copy_57 (by decide) (fun hd => ?_) (fun hd => ?_)
      · exact t70 K ls (by unfold cp_K; omega) (lv_sub hl [0, 1, 2] rfl)
      · refine lv_sipush (v := nI 128) hx hb dX2_copy_60 (by decide) ?_
        refine lv_aload_n hx hb dX2_copy_63 rfl (lv_at hl 0 rfl) ?_
        refine va_get (D := (dC, dI)) (ci := 2) (v := .int (nI m)) (C := RX2) (T := TX2) (N := 5) hx hb hts in_X2 hown hK hP 0 rfl rfl 3 (by decide) (hts _ q100) (fun _ h9 => h9) rfl dX2_copy_64 ?_
        refine lv_isub hx hb dX2_copy_67 ?_
        refine ls_top (pk_sub (a := 128) (b := m) (by omega)) ?_
        refine lv_istore (lv' := [(4, .int (nI (128 - m))), (0, .ref (g 0)), (3, .int (nI (cp_f fr % n)))]) hx hb dX2_copy_68 hl (by decide) rfl (fun ls hl => ?_)
        exact t70 (128 - m) ls (by unfold cp_K; omega) (lv_sub hl [1, 2, 0] rfl)
    refine lv_iload_n hx hb dX2_copy_28 rfl (lv_at hl 1 rfl) ?_
    refine lv_iload hx hb dX2_copy_29 (lv_at hl 0 rfl) ?_
    refine lv_iadd hx hb dX2_copy_31 ?_
    refine ls_top (nI_add ((cp_f fr) % n) ((cp_f ct) % 33)) ?_
    refine lv_aload_n hx hb dX2_copy_32 rfl (lv_at hl 2 rfl) ?_
    refine va_get (D := (dC, dI)) (ci := 2) (v := .int (nI n)) (C := RX2) (T := TX2) (N := 5) hx hb hts in_X2 hown hK hP 0 rfl rfl 2 (by decide) (hts _ q99) (fun _ h9 => h9) rfl dX2_copy_33 ?_
    refine ls_le (x := (((cp_f fr) % n) + ((cp_f ct) % 33))) (y := n) (tgt := 47) hx hb (by omega) (by omega) dX2_copy_36 (by decide) (fun hd => ?_) (fun hd => ?_)
    · exact t47 (cp_f ct % 33) ls (by omega) (lv_sub hl [2, 1, 0] rfl)
    · refine lv_aload_n hx hb dX2_copy_39 rfl (lv_at hl 2 rfl) ?_
      refine va_get (D := (dC, dI)) (ci := 2) (v := .int (nI n)) (C := RX2) (T := TX2) (N := 5) hx hb hts in_X2 hown hK hP 0 rfl rfl 2 (by decide) (hts _ q99) (fun _ h9 => h9) rfl dX2_copy_40 ?_
      refine lv_iload_n hx hb dX2_copy_43 rfl (lv_at hl 1 rfl) ?_
      refine lv_isub hx hb dX2_copy_44 ?_
      refine ls_top (pk_sub (a := n) (b := ((cp_f fr) % n)) (by omega)) ?_
      refine lv_istore (lv' := [(4, .int (nI (n - ((cp_f fr) % n)))), (3, .int (nI ((cp_f fr) % n))), (0, .ref (g 0)), (1, .int fr), (2, .int ct)]) hx hb dX2_copy_45 hl (by decide) rfl (fun ls hl => ?_)
      exact t47 (n - cp_f fr % n) ls (by omega) (lv_sub hl [2, 1, 0] rfl)
  · have hn0 : n = 0 := (nI_eq (by omega) (by decide)).mp (hc.trans nI_0.symm)
    refine lv_iconst (v := (-1)) hx hb dX2_copy_7 (by decide) ?_
    exact W.iret (v := (-1)) hx hb hr (fun t ht hW => ⟨⟨(-1), (b, m), rfl, Or.inl ⟨hn0, rfl, rfl, rfl⟩, by rw [ht]; exact hP, va_K.moved hW.alike hK, hD⟩, hS.F ht⟩) hS.2.2 dX2_copy_8
end
section
/-! ===== LeastScriptModel.turn ===== -/
theorem lc_F_s (a b : Nat → Int32) (i q : Nat) : lc_F a b (i + 1) (q + 1) = if a i = b q then lc_F a b i q + 1 else max (lc_F a b i (q + 1)) (lc_F a b (i + 1) q) := rfl
set_option maxHeartbeats 4000000 in
set_option maxRecDepth 100000 in
/-- LeastScriptModel.turn, its first loop: j places of the row are 0 -/
theorem mz_loop {p : Program} {l : Launch} {e : Env} {R : Room} {s : State} {m0 : MethodId} {args : Array Value} {below : List Frame} {meth : Method} {c : Code} {cells slots : Nat} {Q : State → Prop} {dC : Nat → ClassId} {dI : Nat → Nat → Nat} {d : ClassId} {A : Nat → Prop} {g : Nat → Nat} {a b : Nat → Int32} {n m : Nat} (hx : p.tables.exec = Jvm.exec) (hb : c.code = cX2_turn) (hts : ∀ w ∈ lw_all, w.before args s = true) (hown : s.vm.findClass RX2 = some m0.cls) (hK : va_K (dC, dI) vwCl [(d, .int)] s) (hm : m ≤ 128)
    (hend : ∀ (r : Nat → Int32) (H : Heap) (locs : List Loc) (ls : Array Slot), (∀ k, k ≤ m → r k = nI 0) → va_P (dC, dI) vwCl (mdW d g a b r n m) H → va_D A (mdW d g a b r n m) → va_S A s.heap H locs → lv_has ls 5 [(0, .ref (g 0))] → W p l e R s m0 args below meth c H locs cells slots Q (F0 m0 23 ls [])) :
    ∀ (z j : Nat) (r : Nat → Int32) (H : Heap) (locs : List Loc) (ls : Array Slot), j ≤ m + 1 → m + 2 ≤ j + z → (∀ k, k < j → r k = nI 0) → va_P (dC, dI) vwCl (mdW d g a b r n m) H → va_D A (mdW d g a b r n m) → va_S A s.heap H locs → lv_has ls 5 [(0, .ref (g 0)), (1, .int (nI j))] → W p l e R s m0 args below meth c H locs cells slots Q (F0 m0 2 ls []) := by
  intro z
  induction z with
  | zero =>
    intro j r H locs ls h1 h2
    exact absurd h2 (by omega)
  | succ z ih =>
    intro j r H locs ls hj hin hz hP hD hS hl
    refine lv_iload_n hx hb dX2_turn_2 rfl (lv_at hl 1 rfl) ?_
    refine lv_aload_n hx hb dX2_turn_3 rfl (lv_at hl 0 rfl) ?_
    refine va_get (D := (dC, dI)) (ci := 2) (v := .int (nI m)) (C := RX2) (T := TX2) (N := 5) hx hb hts in_X2 hown hK hP 0 rfl rfl 3 (by decide) (hts _ q100) (fun _ h9 => h9) rfl dX2_turn_4 ?_
    refine ls_gt (x := j) (y := m) (tgt := 23) hx hb (by omega) (by omega) dX2_turn_7 (by decide) (fun hc => ?_) (fun hc => ?_)
    · exact hend r H locs ls (fun k hk => hz k (by omega)) hP hD hS (lv_sub hl [0] rfl)
    · refine lv_aload_n hx hb dX2_turn_10 rfl (lv_at hl 0 rfl) ?_
      refine va_get (D := (dC, dI)) (ci := 2) (v := .ref (g 3)) (C := RX2) (T := TX2) (N := 5) hx hb hts in_X2 hown hK hP 0 rfl rfl 4 (by decide) (hts _ q101) (fun _ h9 => h9) rfl dX2_turn_11 ?_
      refine lv_iload_n hx hb dX2_turn_14 rfl (lv_at hl 1 rfl) ?_
      refine lv_iconst (v := nI 0) hx hb dX2_turn_15 (by decide) ?_
      refine ls_ast (k := j) hx hb hK hP hD hS 3 rfl (by omega) (by decide) dX2_turn_16 (fun H locs hP hD hS => ?_)
      have hP : va_P (dC, dI) vwCl (mdW d g a b (upd r j (nI 0)) n m) H := hP
      have hD : va_D A (mdW d g a b (upd r j (nI 0)) n m) := hD
      refine lv_iinc (v := nI (j + 1)) (lv' := [(1, .int (nI (j + 1))), (0, .ref (g 0))]) hx hb dX2_turn_17 hl (k := 1) rfl (ls_inc j) (by decide) rfl (fun ls hl => ?_)
      refine lv_goto (tgt := 2) hx hb dX2_turn_20 (by decide) ?_
      refine ih (j + 1) _ H locs ls (by omega) (by omega) (fun k hk => ?_) hP hD hS (lv_sub hl [1, 0] rfl)
      by_cases ek : k = j
      · rw [ek, pk_us]
      · rw [pk_un ek]
        exact hz k (by omega)
set_option maxHeartbeats 4000000 in
set_option maxRecDepth 100000 in
/-- LeastScriptModel.turn, one row: j places of it are the new ones -/
theorem mi_loop {p : Program} {l : Launch} {e : Env} {R : Room} {s : State} {m0 : MethodId} {args : Array Value} {below : List Frame} {meth : Method} {c : Code} {cells slots : Nat} {Q : State → Prop} {dC : Nat → ClassId} {dI : Nat → Nat → Nat} {d : ClassId} {A : Nat → Prop} {g : Nat → Nat} {a b : Nat → Int32} {n m i : Nat} (hx : p.tables.exec = Jvm.exec) (hb : c.code = cX2_turn) (hts : ∀ w ∈ lw_all, w.before args s = true) (hown : s.vm.findClass RX2 = some m0.cls) (hK : va_K (dC, dI) vwCl [(d, .int)] s) (hn : n ≤ 128) (hm : m ≤ 128) (hi : i < n)
    (hend : ∀ (r : Nat → Int32) (H : Heap) (locs : List Loc) (ls : Array Slot), (∀ q, q ≤ m → r q = nI (lc_F a b (i + 1) q)) → va_P (dC, dI) vwCl (mdW d g a b r n m) H → va_D A (mdW d g a b r n m) → va_S A s.heap H locs → lv_has ls 5 [(0, .ref (g 0)), (1, .int (nI i))] → W p l e R s m0 args below meth c H locs cells slots Q (F0 m0 115 ls [])) :
    ∀ (z j cn : Nat) (r : Nat → Int32) (H : Heap) (locs : List Loc) (ls : Array Slot), j ≤ m → m + 1 ≤ j + z → (∀ q, q ≤ j → r q = nI (lc_F a b (i + 1) q)) → (∀ q, j < q → q ≤ m → r q = nI (lc_F a b i q)) → cn = lc_F a b i j → va_P (dC, dI) vwCl (mdW d g a b r n m) H → va_D A (mdW d g a b r n m) → va_S A s.heap H locs → lv_has ls 5 [(0, .ref (g 0)), (1, .int (nI i)), (2, .int (nI cn)), (3, .int (nI j))] → W p l e R s m0 args below meth c H locs cells slots Q (F0 m0 37 ls []) := by
  have hok := lc_F_ok a b i
  have hok1 := lc_F_ok a b (i + 1)
  intro z
  induction z with
  | zero =>
    intro j cn r H locs ls h1 h2
    exact absurd h2 (by omega)
  | succ z ih =>
    intro j cn r H locs ls hj hz r1 r2 ecn hP hD hS hl
    refine lv_iload_n hx hb dX2_turn_37 rfl (lv_at hl 3 rfl) ?_
    refine lv_aload_n hx hb dX2_turn_38 rfl (lv_at hl 0 rfl) ?_
    refine va_get (D := (dC, dI)) (ci := 2) (v := .int (nI m)) (C := RX2) (T := TX2) (N := 5) hx hb hts in_X2 hown hK hP 0 rfl rfl 3 (by decide) (hts _ q100) (fun _ h9 => h9) rfl dX2_turn_39 ?_
    refine ls_ge (x := j) (y := m) (tgt := 115) hx hb (by omega) (by omega) dX2_turn_42 (by decide) (fun hc => ?_) (fun hc => ?_)
    · exact hend r H locs ls (fun q hq => r1 q (by omega)) hP hD hS (lv_sub hl [0, 1] rfl)
    · have b1 := lc_le hok (j + 1)
      have b2 := lc_le hok1 j
      have b3 := lc_le hok j
      refine lv_aload_n hx hb dX2_turn_45 rfl (lv_at hl 0 rfl) ?_
      refine va_get (D := (dC, dI)) (ci := 2) (v := .ref (g 3)) (C := RX2) (T := TX2) (N := 5) hx hb hts in_X2 hown hK hP 0 rfl rfl 4 (by decide) (hts _ q101) (fun _ h9 => h9) rfl dX2_turn_46 ?_
      refine lv_iload_n hx hb dX2_turn_49 rfl (lv_at hl 3 rfl) ?_
      refine lv_iconst (v := nI 1) hx hb dX2_turn_50 (by decide) ?_
      refine lv_iadd hx hb dX2_turn_51 ?_
      refine ls_top (nI_add j 1) ?_
      refine ls_ald (k := (j + 1)) (v := nI (lc_F a b i (j + 1))) hx hb hK hP 3 rfl (by omega) (by decide) (r2 (j + 1) (by omega) (by omega)) dX2_turn_52 ?_
      refine lv_istore (lv' := [(4, .int (nI (lc_F a b i (j + 1)))), (0, .ref (g 0)), (1, .int (nI i)), (2, .int (nI cn)), (3, .int (nI j))]) hx hb dX2_turn_53 hl (by decide) rfl (fun ls hl => ?_)
      have tail : ∀ v : Nat, v = lc_F a b (i + 1) (j + 1) → W p l e R s m0 args below meth c H locs cells slots Q (F0 m0 105 ls [.int (nI v), .int (nI (j + 1)), .ref (g 3)]) := by
        intro v ev
        refine ls_ast (k := (j + 1)) hx hb hK hP hD hS 3 rfl (by omega) (by decide) dX2_turn_105 (fun H locs hP hD hS => ?_)
        have hP : va_P (dC, dI) vwCl (mdW d g a b (upd r (j + 1) (nI v)) n m) H := hP
        have hD : va_D A (mdW d g a b (upd r (j + 1) (nI v)) n m) := hD
        refine lv_iload hx hb dX2_turn_106 (lv_at hl 0 rfl) ?_
        refine lv_istore_n (lv' := [(2, .int (nI (lc_F a b i (j + 1)))), (4, .int (nI (lc_F a b i (j + 1)))), (0, .ref (g 0)), (1, .int (nI i)), (3, .int (nI j))]) hx hb dX2_turn_108 rfl hl (by decide) rfl (fun ls hl => ?_)
        refine lv_iinc (v := nI (j + 1)) (lv' := [(3, .int (nI (j + 1))), (2, .int (nI (lc_F a b i (j + 1)))), (4, .int (nI (lc_F a b i (j + 1)))), (0, .ref (g 0)), (1, .int (nI i))]) hx hb dX2_turn_109 hl (k := 4) rfl (ls_inc j) (by decide) rfl (fun ls hl => ?_)
        refine lv_goto (tgt := 37) hx hb dX2_turn_112 (by decide) ?_
        refine ih (j + 1) _ _ H locs ls (by omega) (by omega) (fun q hq => ?_) (fun q h1 h2 => ?_) rfl hP hD hS (lv_sub hl [3, 4, 1, 0] rfl)
        · by_cases eq : q = j + 1
          · rw [eq, pk_us, ev]
          · rw [pk_un eq]
            exact r1 q (by omega)
        · rw [pk_un (by omega)]
          exact r2 q (by omega) h2
      refine lv_aload_n hx hb dX2_turn_55 rfl (lv_at hl 1 rfl) ?_
      refine va_get (D := (dC, dI)) (ci := 2) (v := .ref (g 3)) (C := RX2) (T := TX2) (N := 5) hx hb hts in_X2 hown hK hP 0 rfl rfl 4 (by decide) (hts _ q101) (fun _ h9 => h9) rfl dX2_turn_56 ?_
      refine lv_iload_n hx hb dX2_turn_59 rfl (lv_at hl 4 rfl) ?_
      refine lv_iconst (v := nI 1) hx hb dX2_turn_60 (by decide) ?_
      refine lv_iadd hx hb dX2_turn_61 ?_
      refine ls_top (nI_add j 1) ?_
      refine lv_aload_n hx hb dX2_turn_62 rfl (lv_at hl 1 rfl) ?_
      refine va_get (D := (dC, dI)) (ci := 2) (v := .ref (g 1)) (C := RX2) (T := TX2) (N := 5) hx hb hts in_X2 hown hK hP 0 rfl rfl 0 (by decide) (hts _ q97) (fun _ h9 => h9) rfl dX2_turn_63 ?_
      refine lv_iload_n hx hb dX2_turn_66 rfl (lv_at hl 2 rfl) ?_
      refine ls_ald (k := i) (v := a i) hx hb hK hP 1 rfl (by omega) (by decide) (rfl) dX2_turn_67 ?_
      refine lv_aload_n hx hb dX2_turn_68 rfl (lv_at hl 1 rfl) ?_
      refine va_get (D := (dC, dI)) (ci := 2) (v := .ref (g 2)) (C := RX2) (T := TX2) (N := 5) hx hb hts in_X2 hown hK hP 0 rfl rfl 1 (by decide) (hts _ q98) (fun _ h9 => h9) rfl dX2_turn_69 ?_
      refine lv_iload_n hx hb dX2_turn_72 rfl (lv_at hl 4 rfl) ?_
      refine ls_ald (k := j) (v := b j) hx hb hK hP 2 rfl (by omega) (by decide) (rfl) dX2_turn_73 ?_
      refine lv_icmp_ne (tgt := 83) hx hb dX2_turn_74 (by decide) (fun hc2 => ?_) (fun hc2 => ?_)
      · refine lv_iload hx hb dX2_turn_83 (lv_at hl 0 rfl) ?_
        refine lv_aload_n hx hb dX2_turn_85 rfl (lv_at hl 1 rfl) ?_
        refine va_get (D := (dC, dI)) (ci := 2) (v := .ref (g 3)) (C := RX2) (T := TX2) (N := 5) hx hb hts in_X2 hown hK hP 0 rfl rfl 4 (by decide) (hts _ q101) (fun _ h9 => h9) rfl dX2_turn_86 ?_
        refine lv_iload_n hx hb dX2_turn_89 rfl (lv_at hl 4 rfl) ?_
        refine ls_ald (k := j) (v := nI (lc_F a b (i + 1) j)) hx hb hK hP 3 rfl (by omega) (by decide) (r1 j (Nat.le_refl _)) dX2_turn_90 ?_
        refine ls_le (x := (lc_F a b i (j + 1))) (y := (lc_F a b (i + 1) j)) (tgt := 99) hx hb (by omega) (by omega) dX2_turn_91 (by decide) (fun hd => ?_) (fun hd => ?_)
        · refine lv_aload_n hx hb dX2_turn_99 rfl (lv_at hl 1 rfl) ?_
          refine va_get (D := (dC, dI)) (ci := 2) (v := .ref (g 3)) (C := RX2) (T := TX2) (N := 5) hx hb hts in_X2 hown hK hP 0 rfl rfl 4 (by decide) (hts _ q101) (fun _ h9 => h9) rfl dX2_turn_100 ?_
          refine lv_iload_n hx hb dX2_turn_103 rfl (lv_at hl 4 rfl) ?_
          refine ls_ald (k := j) (v := nI (lc_F a b (i + 1) j)) hx hb hK hP 3 rfl (by omega) (by decide) (r1 j (Nat.le_refl _)) dX2_turn_104 ?_
          exact tail _ (by rw [lc_F_s, if_neg hc2]; omega)
        · refine lv_iload hx hb dX2_turn_94 (lv_at hl 0 rfl) ?_
          refine lv_goto (tgt := 105) hx hb dX2_turn_96 (by decide) ?_
          exact tail _ (by rw [lc_F_s, if_neg hc2]; omega)
      · refine lv_iload_n hx hb dX2_turn_77 rfl (lv_at hl 3 rfl) ?_
        refine lv_iconst (v := nI 1) hx hb dX2_turn_78 (by decide) ?_
        refine lv_iadd hx hb dX2_turn_79 ?_
        refine ls_top (nI_add cn 1) ?_
        refine lv_goto (tgt := 105) hx hb dX2_turn_80 (by decide) ?_
        exact tail _ (by rw [lc_F_s, if_pos hc2, ecn])
set_option maxHeartbeats 4000000 in
set_option maxRecDepth 100000 in
/-- LeastScriptModel.turn, the loop over the rows: the row is that of i lines -/
theorem mo_loop {p : Program} {l : Launch} {e : Env} {R : Room} {s : State} {m0 : MethodId} {args : Array Value} {below : List Frame} {meth : Method} {c : Code} {cells slots : Nat} {Q : State → Prop} {dC : Nat → ClassId} {dI : Nat → Nat → Nat} {d : ClassId} {A : Nat → Prop} {g : Nat → Nat} {a b : Nat → Int32} {n m : Nat} (hx : p.tables.exec = Jvm.exec) (hb : c.code = cX2_turn) (hts : ∀ w ∈ lw_all, w.before args s = true) (hown : s.vm.findClass RX2 = some m0.cls) (hK : va_K (dC, dI) vwCl [(d, .int)] s) (hn : n ≤ 128) (hm : m ≤ 128)
    (hend : ∀ (r : Nat → Int32) (H : Heap) (locs : List Loc) (ls : Array Slot), (∀ q, q ≤ m → r q = nI (lc_F a b n q)) → va_P (dC, dI) vwCl (mdW d g a b r n m) H → va_D A (mdW d g a b r n m) → va_S A s.heap H locs → lv_has ls 5 [(0, .ref (g 0))] → W p l e R s m0 args below meth c H locs cells slots Q (F0 m0 121 ls [])) :
    ∀ (z i : Nat) (r : Nat → Int32) (H : Heap) (locs : List Loc) (ls : Array Slot), i ≤ n → n + 1 ≤ i + z → (∀ q, q ≤ m → r q = nI (lc_F a b i q)) → va_P (dC, dI) vwCl (mdW d g a b r n m) H → va_D A (mdW d g a b r n m) → va_S A s.heap H locs → lv_has ls 5 [(0, .ref (g 0)), (1, .int (nI i))] → W p l e R s m0 args below meth c H locs cells slots Q (F0 m0 25 ls []) := by
  intro z
  induction z with
  | zero =>
    intro i r H locs ls h1 h2
    exact absurd h2 (by omega)
  | succ z ih =>
    intro i r H locs ls hi hz hr hP hD hS hl
    refine lv_iload_n hx hb dX2_turn_25 rfl (lv_at hl 1 rfl) ?_
    refine lv_aload_n hx hb dX2_turn_26 rfl (lv_at hl 0 rfl) ?_
    refine va_get (D := (dC, dI)) (ci := 2) (v := .int (nI n)) (C := RX2) (T := TX2) (N := 5) hx hb hts in_X2 hown hK hP 0 rfl rfl 2 (by decide) (hts _ q99) (fun _ h9 => h9) rfl dX2_turn_27 ?_
    refine ls_ge (x := i) (y := n) (tgt := 121) hx hb (by omega) (by omega) dX2_turn_30 (by decide) (fun hc => ?_) (fun hc => ?_)
    · obtain rfl : i = n := by omega
      exact hend r H locs ls hr hP hD hS (lv_sub hl [0] rfl)
    · refine lv_iconst (v := nI 0) hx hb dX2_turn_33 (by decide) ?_
      refine lv_istore_n (lv' := [(2, .int (nI 0)), (0, .ref (g 0)), (1, .int (nI i))]) hx hb dX2_turn_34 rfl hl (by decide) rfl (fun ls hl => ?_)
      refine lv_iconst (v := nI 0) hx hb dX2_turn_35 (by decide) ?_
      refine lv_istore_n (lv' := [(3, .int (nI 0)), (2, .int (nI 0)), (0, .ref (g 0)), (1, .int (nI i))]) hx hb dX2_turn_36 rfl hl (by decide) rfl (fun ls hl => ?_)
      refine mi_loop hx hb hts hown hK hn hm hc (fun r H locs ls hr hP hD hS hl => ?_) (m + 1) 0 0 r H locs ls (Nat.zero_le _) (by omega) (fun q hq => ?_) (fun q h1 h2 => hr q h2) (lc_F_ok a b i).1.symm hP hD hS (lv_sub hl [2, 3, 1, 0] rfl)
      · refine lv_iinc (v := nI (i + 1)) (lv' := [(1, .int (nI (i + 1))), (0, .ref (g 0))]) hx hb dX2_turn_115 hl (k := 1) rfl (ls_inc i) (by decide) rfl (fun ls hl => ?_)
        refine lv_goto (tgt := 25) hx hb dX2_turn_118 (by decide) ?_
        exact ih (i + 1) r H locs ls (by omega) (by omega) hr hP hD hS (lv_sub hl [1, 0] rfl)
      · rw [show q = 0 by omega, hr 0 (Nat.zero_le _), (lc_F_ok a b i).1, (lc_F_ok a b (i + 1)).1]
set_option maxHeartbeats 4000000 in
set_option maxRecDepth 100000 in
/-- LeastScriptModel.turn() -/
theorem met_mturn (l : Launch) (dC : Nat → ClassId) (dI : Nat → Nat → Nat) (d : ClassId) (g : Nat → Nat) (a b r : Nat → Int32) (n m : Nat) (sz : Nat) (hn : n ≤ 128) (hm : m ≤ 128) : Met l yX2_turn (ws_ yX2_turn cX2_turn 5 (some .int)) ({ frames := 0, cells := 0, slots := 0, locals := 0 }) (cPre dC dI d [.ref (g 0)] sz (mdW d g a b r n m)) (va_Qi (fun (r2 : Int32) (_ : Nat → Int32) => r2 = nI (n + m) - nI (2 * lc_F a b n m)) (cB dC dI d (va_A (mdW d g a b r n m) sz) (fun u => mdW d g a b u n m)) (va_A (mdW d g a b r n m) sz)) 0 0 (va_A (mdW d g a b r n m) sz) := by
  refine Met.ofW (cc := cX2_turn) (maxL := 5) (ret := (some .int)) (by decide) rfl ?_
  intro p e s m0 args below meth c s₁ B hml hv
  obtain ⟨rfl, hsz, hP, hK, hD0⟩ := hv
  have hx := B.exec
  have hb := B.bytes
  have hr := B.returns
  have hts := atoms_spec (ws := ws_ yX2_turn cX2_turn 5 (some .int)) B.pre
  have hts : ∀ w ∈ lw_all, w.before _ s = true := fun w h => hts w (List.mem_cons_of_mem _ h)
  have hown : s.vm.findClass RX2 = some m0.cls := findClass_of_methodNamed B.named
  have hlocks := B.notSynchronized
  subst hsz
  have hD := hD0.self (sz := s.heap.size)
  generalize hAe : va_A (mdW d g a b r n m) s.heap.size = A at hD ⊢
  have hA : ∀ q : Nat, s.heap.size ≤ q → A q := fun q h => by rw [← hAe]; exact Or.inr h
  have hS : va_S A s.heap s.heap [] := va_S.rf
  have hP : va_P (dC, dI) vwCl (mdW d g a b r n m) s.heap := hP
  have hl := lv_entry ([.ref (g 0)]) (n := 5) (Nat.le_of_ble_eq_true rfl)
  rw [lg_entry_eq]
  generalize (lg_sl ([.ref (g 0)]) ++ List.replicate (5 - (lg_sl ([.ref (g 0)])).length) Slot.unset).toArray = ls at hl ⊢
  have hl : lv_has ls 5 [(0, .ref (g 0))] := hl
  refine lv_iconst (v := nI 0) hx hb dX2_turn_0 (by decide) ?_
  refine lv_istore_n (lv' := [(1, .int (nI 0)), (0, .ref (g 0))]) hx hb dX2_turn_1 rfl hl (by decide) rfl (fun ls hl => ?_)
  refine mz_loop hx hb hts hown hK hm (fun r H locs ls hz hP hD hS hl => ?_) (m + 2) 0 r s.heap [] ls (Nat.zero_le _) (by omega) (fun k hk => absurd hk (Nat.not_lt_zero k)) hP hD hS (lv_sub hl [1, 0] rfl)
  refine lv_iconst (v := nI 0) hx hb dX2_turn_23 (by decide) ?_
  refine lv_istore_n (lv' := [(1, .int (nI 0)), (0, .ref (g 0))]) hx hb dX2_turn_24 rfl hl (by decide) rfl (fun ls hl => ?_)
  refine mo_loop (a := a) (b := b) hx hb hts hown hK hn hm (fun r H locs ls hr2 hP hD hS hl => ?_) (n + 1) 0 r H locs ls (Nat.zero_le _) (by omega) (fun q hq => hz q hq) hP hD hS (lv_sub hl [1, 0] rfl)
  refine lv_aload_n hx hb dX2_turn_121 rfl (lv_at hl 0 rfl) ?_
  refine va_get (D := (dC, dI)) (ci := 2) (v := .int (nI n)) (C := RX2) (T := TX2) (N := 5) hx hb hts in_X2 hown hK hP 0 rfl rfl 2 (by decide) (hts _ q99) (fun _ h9 => h9) rfl dX2_turn_122 ?_
  refine lv_aload_n hx hb dX2_turn_125 rfl (lv_at hl 0 rfl) ?_
  refine va_get (D := (dC, dI)) (ci := 2) (v := .int (nI m)) (C := RX2) (T := TX2) (N := 5) hx hb hts in_X2 hown hK hP 0 rfl rfl 3 (by decide) (hts _ q100) (fun _ h9 => h9) rfl dX2_turn_126 ?_
  refine lv_iadd hx hb dX2_turn_129 ?_
  refine ls_top (nI_add n m) ?_
  refine lv_iconst (v := nI 2) hx hb dX2_turn_130 (by decide) ?_
  refine lv_aload_n hx hb dX2_turn_131 rfl (lv_at hl 0 rfl) ?_
  refine va_get (D := (dC, dI)) (ci := 2) (v := .ref (g 3)) (C := RX2) (T := TX2) (N := 5) hx hb hts in_X2 hown hK hP 0 rfl rfl 4 (by decide) (hts _ q101) (fun _ h9 => h9) rfl dX2_turn_132 ?_
  refine lv_aload_n hx hb dX2_turn_135 rfl (lv_at hl 0 rfl) ?_
  refine va_get (D := (dC, dI)) (ci := 2) (v := .int (nI m)) (C := RX2) (T := TX2) (N := 5) hx hb hts in_X2 hown hK hP 0 rfl rfl 3 (by decide) (hts _ q100) (fun _ h9 => h9) rfl dX2_turn_136 ?_
  refine ls_ald (k := m) (v := nI (lc_F a b n m)) hx hb hK hP 3 rfl (by omega) (by decide) (hr2 m (Nat.le_refl _)) dX2_turn_139 ?_
  refine lv_imul hx hb dX2_turn_140 ?_
  refine ls_top (pk_mul 2 (lc_F a b n m)) ?_
  refine lv_isub hx hb dX2_turn_141 ?_
  exact W.iret (v := (nI (n + m) - nI (2 * lc_F a b n m))) hx hb hr (fun t ht hW => ⟨⟨(nI (n + m) - nI (2 * lc_F a b n m)), r, rfl, rfl, by rw [ht]; exact hP, va_K.moved hW.alike hK, hD⟩, hS.F ht⟩) hS.2.2 dX2_turn_142
end
section
-- ===== end of PART A; then your names; then what follows =====
/-! THE CLAIM OUT OF ONE WALK OF THE LAW'S BODY. Your part is whole_start (and what it stands on); all else here is the same for every law, but numbers. -/
def R_law : String := "LeastScriptLaw"
def lw_P (b : Addr) (xs : List Int32) (args : Array Value) (s : State) : Prop := args = #[.ref b] ∧ s.IntsAt b xs ∧ xs.length ≤ 192 ∧ (Jvm.Cond.and given_1 narrow_1).before args s = true
def lw_Q (_ : Array Value) (s : State) (o : Outcome) (t : State) : Prop := o = .returned (some (.int 1)) ∧ Framed s o t [] 600000 7290000
def lw_Z (below : List Frame) (a : Array Value) (s : State) : State → Prop := fun t => ∃ o, t.status = .running ∧ Ended t below o ∧ lw_Q a s o t
/-- the law's own end, with 1 on the stack, nothing written that was there before, its room as the claim has it -/
theorem lw_ret {p : Program} {l : Launch} {e : Env} {s : State} {m : MethodId} {below : List Frame} {meth : Method} {c : Code} {b : Nat} (hx : p.tables.exec = Jvm.exec) (hb : c.code = code) (hr : meth.sig.returnType = ret) (hlocks : meth.locks = false) {pc : Nat} {H : Heap} {ls : Array Slot} (hdg : decode code pc = .ok (.ireturn, 1)) : W p l e room_1 s m #[Value.ref b] below meth c H [] 600000 7290000 (lw_Z below #[Value.ref b] s) (F0 m pc ls [.int 1]) := by
  intro T hT X
  obtain ⟨fs, hret, hrun, hended, hW, hframe⟩ := X.leave (v := some (.int 1)) (hlocks := hlocks) (fun h => by rw [hr] at h; cases h)
  have hmeth' : T.vm.method? m = some meth := X.method'
  refine ⟨T.setFrames fs, ?_, .returned (some (.int 1)), hrun, hended, rfl, ⟨_, rfl⟩, hW, hframe⟩
  jvm_step X.here [X.here.top, hx, hb, hdg, hmeth', hr, ret, narrow_b1]
  (try refine ⟨rfl, ?_⟩); (try refine ⟨rfl, ?_⟩)
  first | (intro acts; rw [hret _ acts rfl rfl rfl]) | rw [hret _ _ rfl rfl rfl]
  exact Steps.refl _
/-- what holds at the law's entry: the machine, the code, the tables' words (any of lw_tbl by 'hts w (by decide +kernel)'), the script of L ints xs at the cell b, what the Statement gives of the start (any of its parts by flat_of_before) -/
def lw_At (p : Program) (s : State) (m : MethodId) (meth : Method) (c : Code) (b L : Nat) (xs : Nat → Int32) : Prop :=
  p.tables.exec = Jvm.exec ∧ c.code = code ∧ meth.sig.returnType = ret ∧ c.maxLocals = 4 ∧ s.vm.findClass R_law = some m.cls ∧ (∀ w ∈ lw_tbl, w.before #[Value.ref b] s = true) ∧ va_X b L xs s s.heap ∧ b < s.heap.size ∧ meth.locks = false ∧ (Jvm.Cond.and given_1 narrow_1).before #[Value.ref b] s = true
/-- the script read at a place -/
theorem ls_sld {p : Program} {l : Launch} {e : Env} {R : Room} {s : State} {m : MethodId} {args : Array Value} {below : List Frame} {meth : Method} {c : Code} {H H0 : Heap} {locs : List Loc} {cells slots : Nat} {Q : State → Prop} {cc : ByteArray} {pc : Nat} {ls : Array Slot} {rest : List Value} {A : Nat → Prop} (hexec : p.tables.exec = Jvm.exec) (hb : c.code = cc) {b L : Nat} {xs : Nat → Int32} (hX : va_X b L xs s H0) (hbl : b < H0.size) (hbA : ¬ A b) (hS : va_S A H0 H locs) {k : Nat} (hk : k < L) (hL : L ≤ 192) (hdg : decode cc pc = .ok (.iaload, 1))
    (kk : W p l e R s m args below meth c H locs cells slots Q (F0 m (pc + 1) ls (.int (xs k) :: rest))) : W p l e R s m args below meth c H locs cells slots Q (F0 m pc ls (.int (nI k) :: .ref b :: rest)) := by
  refine va_sld hexec hb hX hbl hbA hS (vp_in_nI hk (by omega)) hdg ?_
  rw [nI_clamp (by omega)]
  exact kk
theorem ls_end {L i : Nat} (hL : L ≤ 192) (hi : i < 400) : nI L - nI 3 < nI i ↔ L < i + 3 := by
  rw [Int32.lt_iff_toInt_lt, pk_sub_toInt (by omega) (by decide), nI_toInt (by omega)]
  omega
set_option maxHeartbeats 4000000 in
set_option maxRecDepth 100000 in
/-- THE LAW'S LOOP at its head: i ints of the script done; both hold the same two texts -/
theorem law_loop {p : Program} {l : Launch} {e : Env} {s : State} {m0 : MethodId} {below : List Frame} {meth : Method} {c : Code} {dC : Nat → ClassId} {dI : Nat → Nat → Nat} {d : ClassId} {A : Nat → Prop} {sc L : Nat} {xs : Nat → Int32} (hL : L ≤ 192) (C0 : lw_At p s m0 meth c sc L xs) (hK : va_K (dC, dI) vwCl [(d, .int)] s) (hA : ∀ q : Nat, s.heap.size ≤ q → A q) (hA2 : ∀ q : Nat, A q → s.heap.size ≤ q) {g g2 : Nat → Nat} :
    ∀ (z i : Nat) (a b li sl le ll la be en r : Nat → Int32) (mn n m : Nat) (H : Heap) (locs : List Loc) (ls : Array Slot), i < L + 3 → L + 3 ≤ i + z → ls_I a n b m li sl mn le ll la be → va_P (dC, dI) vwCl (lsW d g li sl le ll la be en mn n m ++ mdW d g2 a b r n m) H → va_D A (lsW d g li sl le ll la be en mn n m ++ mdW d g2 a b r n m) → va_S A s.heap H locs → lv_has ls 4 [(0, .ref sc), (1, .ref (g 0)), (2, .ref (g2 0)), (3, .int (nI i))] → W p l e room_1 s m0 #[Value.ref sc] below meth c H locs 600000 7290000 (lw_Z below #[Value.ref sc] s) (F0 m0 18 ls []) := by
  obtain ⟨hx, hb, hr, hml, hown, hts0, hX, hbl, hlocks, hgv⟩ := C0
  have hts : ∀ w ∈ lw_all, w.before #[Value.ref sc] s = true := fun w h => hts0 w (lw_all_tbl h)
  have hbA : ¬ A sc := fun h => absurd (hA2 sc h) (Nat.not_le.mpr hbl)
  intro z
  induction z with
  | zero =>
    intro i a b li sl le ll la be en r mn n m H locs ls h1 h2
    exact absurd h2 (by omega)
  | succ z ih =>
    intro i a b li sl le ll la be en r mn n m H locs ls hi hz hI hP hD hS hl
    refine lv_iload_n hx hb dL_law_18 rfl (lv_at hl 3 rfl) ?_
    refine lv_aload_n hx hb dL_law_19 rfl (lv_at hl 0 rfl) ?_
    refine va_slen hx hb hX hbl hbA hS dL_law_20 ?_
    refine ls_top (show Int32.ofNat L = nI L from rfl) ?_
    refine lv_iconst (v := nI 3) hx hb dL_law_21 (by decide) ?_
    refine lv_isub hx hb dL_law_22 ?_
    refine lv_icmp_gt (tgt := 177) hx hb dL_law_23 (by decide) (fun hc => ?_) (fun hc => ?_)
    · refine lv_iconst (v := 1) hx hb dL_law_177 (by decide) ?_
      refine va_forget (fun q hq => hA2 _ (hS.2.2 q hq)) ?_
      exact lw_ret hx hb hr hlocks dL_law_178
    · have hi3 : i + 3 ≤ L := Nat.le_of_not_lt (fun q => hc ((ls_end hL (by omega)).mpr q))
      obtain ⟨i1, i2, i3, i4, i5, i6, i7, i8, i9⟩ := id hI
      have tail : ∀ (a b li sl le ll la be en r : Nat → Int32) (mn n m : Nat) (H : Heap) (locs : List Loc) (ls : Array Slot), ls_I a n b m li sl mn le ll la be → va_P (dC, dI) vwCl (lsW d g li sl le ll la be en mn n m ++ mdW d g2 a b r n m) H → va_D A (lsW d g li sl le ll la be en mn n m ++ mdW d g2 a b r n m) → va_S A s.heap H locs → lv_has ls 4 [(0, .ref sc), (1, .ref (g 0)), (2, .ref (g2 0)), (3, .int (nI i))] → W p l e room_1 s m0 #[Value.ref sc] below meth c H locs 600000 7290000 (lw_Z below #[Value.ref sc] s) (F0 m0 171 ls []) := by
        intro a b li sl le ll la be en r mn n m H locs ls hI hP hD hS hl
        refine lv_iinc (v := nI (i + 3)) (lv' := [(3, .int (nI (i + 3))), (0, .ref sc), (1, .ref (g 0)), (2, .ref (g2 0))]) hx hb dL_law_171 hl (k := 3) rfl (ls_inc3 i) (by decide) rfl (fun ls hl => ?_)
        refine lv_goto (tgt := 18) hx hb dL_law_174 (by decide) ?_
        exact ih (i + 3) a b li sl le ll la be en r mn n m H locs ls (by omega) (by omega) hI hP hD hS (lv_sub hl [1, 2, 3, 0] rfl)
      refine lv_aload_n hx hb dL_law_26 rfl (lv_at hl 0 rfl) ?_
      refine lv_iload_n hx hb dL_law_27 rfl (lv_at hl 3 rfl) ?_
      refine ls_sld (k := i) hx hb hX hbl hbA hS (by omega) hL dL_law_28 ?_
      refine lv_bipush (v := nI 7) hx hb dL_law_29 (by decide) ?_
      obtain ⟨j, hj, ej⟩ := pk_andE (xs i) (m := nI 7) 3 (by decide)
      refine lv_iand hx hb dL_law_31 ?_
      refine ls_top (ej) ?_
      rcases (show j = 0 ∨ j = 1 ∨ j = 2 ∨ j = 3 ∨ j = 4 ∨ 5 ≤ j by omega) with rfl | rfl | rfl | rfl | rfl | h5
      · refine lv_tableIn (off := 36) (tgt := 68) hx hb dL_law_32 (by decide) (by decide) (by decide) (by decide) ?_
        refine lv_aload_n hx hb dL_law_68 rfl (lv_at hl 1 rfl) ?_
        refine lv_aload_n hx hb dL_law_69 rfl (lv_at hl 0 rfl) ?_
        refine lv_iload_n hx hb dL_law_70 rfl (lv_at hl 3 rfl) ?_
        refine lv_iconst (v := nI 1) hx hb dL_law_71 (by decide) ?_
        refine lv_iadd hx hb dL_law_72 ?_
        refine ls_top (nI_add i 1) ?_
        refine ls_sld (k := (i + 1)) hx hb hX hbl hbA hS (by omega) hL dL_law_73 ?_
        have hPc := hP.sub (ws' := (lsW d g li sl le ll la be en mn n m)) [0, 1, 2, 3, 4, 5, 6, 7, 8] rfl
        have hDc := hD.sub (ws' := (lsW d g li sl le ll la be en mn n m)) [0, 1, 2, 3, 4, 5, 6, 7, 8] (by decide) rfl
        have hFc := va_free (wc := (lsW d g li sl le ll la be en mn n m)) hD hS hA [0, 1, 2, 3, 4, 5, 6, 7, 8] rfl
        refine va_calli (va_runV (As := [.int (xs (i + 1))]) (rest := []) ⟨hx, hb, hml, hown, hts⟩ (met_left l dC dI d g li sl le ll la be en mn n m a b (xs (i + 1)) H.size hI) (cwV 1 hts (lw_V q64 q65 q66 q1 q67) rfl rfl rfl (by decide +kernel) ⟨Nat.le_of_ble_eq_true rfl, Nat.le_of_ble_eq_true rfl⟩) ⟨ls_blind, va_recv hK hPc (ci := 0) (q0 := 0) rfl rfl, ls_pre hPc hK hDc⟩ rfl rfl hl.1 rfl (lv_room (Nat.le_of_ble_eq_true rfl)) dL_law_74 ⟨Nat.le_refl _, Nat.le_refl _⟩) hS (fun q _ h => hFc q h) hFc (fun r1 u t H1 locs ht hvm hw hB hz1 hk1 hS => ?_)
        obtain ⟨li2, sl2, le2, ll2, mn2, n2⟩ := u
        obtain ⟨hP1, hK1, hD1⟩ := hB
        rw [ht] at hP1
        obtain ⟨hP, hD⟩ := va_join (wr := (mdW d g2 a b r n m)) (w1 := (lsW d g li2 sl2 le2 ll2 la be en mn2 n2 m)) hP hD [0, 1, 2, 3, 4, 5, 6, 7, 8] [9, 10, 11, 12] rfl rfl (by decide) (by decide) hk1 hFc hP1 hD1
        generalize H1 = H at hP hS ⊢
        have hP : va_P (dC, dI) vwCl (lsW d g li2 sl2 le2 ll2 la be en mn2 n2 m ++ mdW d g2 a b r n m) H := hP.sub [4, 5, 6, 7, 8, 9, 10, 11, 12, 0, 1, 2, 3] rfl
        have hD : va_D A (lsW d g li2 sl2 le2 ll2 la be en mn2 n2 m ++ mdW d g2 a b r n m) := hD.sub [4, 5, 6, 7, 8, 9, 10, 11, 12, 0, 1, 2, 3] (by decide) rfl
        have hw1 := hw
        refine lv_aload_n hx hb dL_law_77 rfl (lv_at hl 2 rfl) ?_
        refine lv_aload_n hx hb dL_law_78 rfl (lv_at hl 0 rfl) ?_
        refine lv_iload_n hx hb dL_law_79 rfl (lv_at hl 3 rfl) ?_
        refine lv_iconst (v := nI 1) hx hb dL_law_80 (by decide) ?_
        refine lv_iadd hx hb dL_law_81 ?_
        refine ls_top (nI_add i 1) ?_
        refine ls_sld (k := (i + 1)) hx hb hX hbl hbA hS (by omega) hL dL_law_82 ?_
        have hPc := hP.sub (ws' := (mdW d g2 a b r n m)) [9, 10, 11, 12] rfl
        have hDc := hD.sub (ws' := (mdW d g2 a b r n m)) [9, 10, 11, 12] (by decide) rfl
        have hFc := va_free (wc := (mdW d g2 a b r n m)) hD hS hA [9, 10, 11, 12] rfl
        refine va_calli (va_runV (As := [.int (xs (i + 1))]) (rest := [.int r1]) ⟨hx, hb, hml, hown, hts⟩ (met_mleft l dC dI d g2 a b r n m (xs (i + 1)) H.size i1 i2) (cwV 1 hts (lw_V q113 q114 q115 q3 q116) rfl rfl rfl (by decide +kernel) ⟨Nat.le_of_ble_eq_true rfl, Nat.le_of_ble_eq_true rfl⟩) ⟨ls_blind, va_recv hK hPc (ci := 2) (q0 := 0) rfl rfl, ls_pre hPc hK hDc⟩ rfl rfl hl.1 rfl (lv_room (Nat.le_of_ble_eq_true rfl)) dL_law_83 ⟨Nat.le_refl _, Nat.le_refl _⟩) hS (fun q _ h => hFc q h) hFc (fun r2 u t H1 locs ht hvm hw hB hz1 hk1 hS => ?_)
        obtain ⟨a2, n3⟩ := u
        obtain ⟨hP1, hK1, hD1⟩ := hB
        rw [ht] at hP1
        obtain ⟨hP, hD⟩ := va_join (wr := (lsW d g li2 sl2 le2 ll2 la be en mn2 n2 m)) (w1 := (mdW d g2 a2 b r n3 m)) hP hD [9, 10, 11, 12] [0, 1, 2, 3, 4, 5, 6, 7, 8] rfl rfl (by decide) (by decide) hk1 hFc hP1 hD1
        generalize H1 = H at hP hS ⊢
        have hP : va_P (dC, dI) vwCl (lsW d g li2 sl2 le2 ll2 la be en mn2 n2 m ++ mdW d g2 a2 b r n3 m) H := hP.sub [0, 1, 2, 3, 4, 5, 6, 7, 8, 9, 10, 11, 12] rfl
        have hD : va_D A (lsW d g li2 sl2 le2 ll2 la be en mn2 n2 m ++ mdW d g2 a2 b r n3 m) := hD.sub [0, 1, 2, 3, 4, 5, 6, 7, 8, 9, 10, 11, 12] (by decide) rfl
        have hw2 := hw
        rcases hw1 with ⟨w1, w2, w3, w4⟩ | ⟨w1, w2, w3, w4⟩ <;> rcases hw2 with ⟨v1, v2, v3, v4⟩ | ⟨v1, v2, v3, v4⟩
        · have w3 : n2 = n := w3
          have v3 : a2 = a := v3
          have v4 : n3 = n := v4
          rw [w3, v3, v4] at hP hD
          refine lv_icmp_eq (tgt := 171) hx hb dL_law_86 (by decide) (fun hq => ?_) (fun hq => absurd (w2.trans v2.symm) hq)
          exact tail a b li2 sl2 le2 ll2 la be en r mn2 n m H locs ls w4 hP hD hS hl
        · exact absurd v1 (by omega)
        · exact absurd v1 (by omega)
        · have w3 : n2 = (n + 1) := w3
          have v3 : a2 = (upd a n (xs (i + 1))) := v3
          have v4 : n3 = (n + 1) := v4
          rw [w3, v3, v4] at hP hD
          refine lv_icmp_eq (tgt := 171) hx hb dL_law_86 (by decide) (fun hq => ?_) (fun hq => absurd (w2.trans v2.symm) hq)
          exact tail (upd a n (xs (i + 1))) b li2 sl2 le2 ll2 la be en r mn2 (n + 1) m H locs ls w4 hP hD hS hl
      · refine lv_tableIn (off := 59) (tgt := 91) hx hb dL_law_32 (by decide) (by decide) (by decide) (by decide) ?_
        refine lv_aload_n hx hb dL_law_91 rfl (lv_at hl 1 rfl) ?_
        refine lv_aload_n hx hb dL_law_92 rfl (lv_at hl 0 rfl) ?_
        refine lv_iload_n hx hb dL_law_93 rfl (lv_at hl 3 rfl) ?_
        refine lv_iconst (v := nI 1) hx hb dL_law_94 (by decide) ?_
        refine lv_iadd hx hb dL_law_95 ?_
        refine ls_top (nI_add i 1) ?_
        refine ls_sld (k := (i + 1)) hx hb hX hbl hbA hS (by omega) hL dL_law_96 ?_
        have hPc := hP.sub (ws' := (lsW d g li sl le ll la be en mn n m)) [0, 1, 2, 3, 4, 5, 6, 7, 8] rfl
        have hDc := hD.sub (ws' := (lsW d g li sl le ll la be en mn n m)) [0, 1, 2, 3, 4, 5, 6, 7, 8] (by decide) rfl
        have hFc := va_free (wc := (lsW d g li sl le ll la be en mn n m)) hD hS hA [0, 1, 2, 3, 4, 5, 6, 7, 8] rfl
        refine va_calli (va_runV (As := [.int (xs (i + 1))]) (rest := []) ⟨hx, hb, hml, hown, hts⟩ (met_right l dC dI d g li sl le ll la be en mn n m a b (xs (i + 1)) H.size hI) (cwV 1 hts (lw_V q73 q74 q75 q1 q76) rfl rfl rfl (by decide +kernel) ⟨Nat.le_of_ble_eq_true rfl, Nat.le_of_ble_eq_true rfl⟩) ⟨ls_blind, va_recv hK hPc (ci := 0) (q0 := 0) rfl rfl, ls_pre hPc hK hDc⟩ rfl rfl hl.1 rfl (lv_room (Nat.le_of_ble_eq_true rfl)) dL_law_97 ⟨Nat.le_refl _, Nat.le_refl _⟩) hS (fun q _ h => hFc q h) hFc (fun r1 u t H1 locs ht hvm hw hB hz1 hk1 hS => ?_)
        obtain ⟨li2, sl2, la2, be2, mn2, m2⟩ := u
        obtain ⟨hP1, hK1, hD1⟩ := hB
        rw [ht] at hP1
        obtain ⟨hP, hD⟩ := va_join (wr := (mdW d g2 a b r n m)) (w1 := (lsW d g li2 sl2 le ll la2 be2 en mn2 n m2)) hP hD [0, 1, 2, 3, 4, 5, 6, 7, 8] [9, 10, 11, 12] rfl rfl (by decide) (by decide) hk1 hFc hP1 hD1
        generalize H1 = H at hP hS ⊢
        have hP : va_P (dC, dI) vwCl (lsW d g li2 sl2 le ll la2 be2 en mn2 n m2 ++ mdW d g2 a b r n m) H := hP.sub [4, 5, 6, 7, 8, 9, 10, 11, 12, 0, 1, 2, 3] rfl
        have hD : va_D A (lsW d g li2 sl2 le ll la2 be2 en mn2 n m2 ++ mdW d g2 a b r n m) := hD.sub [4, 5, 6, 7, 8, 9, 10, 11, 12, 0, 1, 2, 3] (by decide) rfl
        have hw1 := hw
        refine lv_aload_n hx hb dL_law_100 rfl (lv_at hl 2 rfl) ?_
        refine lv_aload_n hx hb dL_law_101 rfl (lv_at hl 0 rfl) ?_
        refine lv_iload_n hx hb dL_law_102 rfl (lv_at hl 3 rfl) ?_
        refine lv_iconst (v := nI 1) hx hb dL_law_103 (by decide) ?_
        refine lv_iadd hx hb dL_law_104 ?_
        refine ls_top (nI_add i 1) ?_
        refine ls_sld (k := (i + 1)) hx hb hX hbl hbA hS (by omega) hL dL_law_105 ?_
        have hPc := hP.sub (ws' := (mdW d g2 a b r n m)) [9, 10, 11, 12] rfl
        have hDc := hD.sub (ws' := (mdW d g2 a b r n m)) [9, 10, 11, 12] (by decide) rfl
        have hFc := va_free (wc := (mdW d g2 a b r n m)) hD hS hA [9, 10, 11, 12] rfl
        refine va_calli (va_runV (As := [.int (xs (i + 1))]) (rest := [.int r1]) ⟨hx, hb, hml, hown, hts⟩ (met_mright l dC dI d g2 a b r n m (xs (i + 1)) H.size i1 i2) (cwV 1 hts (lw_V q117 q118 q119 q3 q120) rfl rfl rfl (by decide +kernel) ⟨Nat.le_of_ble_eq_true rfl, Nat.le_of_ble_eq_true rfl⟩) ⟨ls_blind, va_recv hK hPc (ci := 2) (q0 := 0) rfl rfl, ls_pre hPc hK hDc⟩ rfl rfl hl.1 rfl (lv_room (Nat.le_of_ble_eq_true rfl)) dL_law_106 ⟨Nat.le_refl _, Nat.le_refl _⟩) hS (fun q _ h => hFc q h) hFc (fun r2 u t H1 locs ht hvm hw hB hz1 hk1 hS => ?_)
        obtain ⟨b2, m3⟩ := u
        obtain ⟨hP1, hK1, hD1⟩ := hB
        rw [ht] at hP1
        obtain ⟨hP, hD⟩ := va_join (wr := (lsW d g li2 sl2 le ll la2 be2 en mn2 n m2)) (w1 := (mdW d g2 a b2 r n m3)) hP hD [9, 10, 11, 12] [0, 1, 2, 3, 4, 5, 6, 7, 8] rfl rfl (by decide) (by decide) hk1 hFc hP1 hD1
        generalize H1 = H at hP hS ⊢
        have hP : va_P (dC, dI) vwCl (lsW d g li2 sl2 le ll la2 be2 en mn2 n m2 ++ mdW d g2 a b2 r n m3) H := hP.sub [0, 1, 2, 3, 4, 5, 6, 7, 8, 9, 10, 11, 12] rfl
        have hD : va_D A (lsW d g li2 sl2 le ll la2 be2 en mn2 n m2 ++ mdW d g2 a b2 r n m3) := hD.sub [0, 1, 2, 3, 4, 5, 6, 7, 8, 9, 10, 11, 12] (by decide) rfl
        have hw2 := hw
        rcases hw1 with ⟨w1, w2, w3, w4⟩ | ⟨w1, w2, w3, w4⟩ <;> rcases hw2 with ⟨v1, v2, v3, v4⟩ | ⟨v1, v2, v3, v4⟩
        · have w3 : m2 = m := w3
          have v3 : b2 = b := v3
          have v4 : m3 = m := v4
          rw [w3, v3, v4] at hP hD
          refine lv_icmp_eq (tgt := 171) hx hb dL_law_109 (by decide) (fun hq => ?_) (fun hq => absurd (w2.trans v2.symm) hq)
          exact tail a b li2 sl2 le ll la2 be2 en r mn2 n m H locs ls w4 hP hD hS hl
        · exact absurd v1 (by omega)
        · exact absurd v1 (by omega)
        · have w3 : m2 = (m + 1) := w3
          have v3 : b2 = (upd b m (xs (i + 1))) := v3
          have v4 : m3 = (m + 1) := v4
          rw [w3, v3, v4] at hP hD
          refine lv_icmp_eq (tgt := 171) hx hb dL_law_109 (by decide) (fun hq => ?_) (fun hq => absurd (w2.trans v2.symm) hq)
          exact tail a (upd b m (xs (i + 1))) li2 sl2 le ll la2 be2 en r mn2 n (m + 1) H locs ls w4 hP hD hS hl
      · refine lv_tableIn (off := 82) (tgt := 114) hx hb dL_law_32 (by decide) (by decide) (by decide) (by decide) ?_
        refine lv_aload_n hx hb dL_law_114 rfl (lv_at hl 1 rfl) ?_
        refine lv_aload_n hx hb dL_law_115 rfl (lv_at hl 0 rfl) ?_
        refine lv_iload_n hx hb dL_law_116 rfl (lv_at hl 3 rfl) ?_
        refine lv_iconst (v := nI 1) hx hb dL_law_117 (by decide) ?_
        refine lv_iadd hx hb dL_law_118 ?_
        refine ls_top (nI_add i 1) ?_
        refine ls_sld (k := (i + 1)) hx hb hX hbl hbA hS (by omega) hL dL_law_119 ?_
        refine lv_aload_n hx hb dL_law_120 rfl (lv_at hl 0 rfl) ?_
        refine lv_iload_n hx hb dL_law_121 rfl (lv_at hl 3 rfl) ?_
        refine lv_iconst (v := nI 2) hx hb dL_law_122 (by decide) ?_
        refine lv_iadd hx hb dL_law_123 ?_
        refine ls_top (nI_add i 2) ?_
        refine ls_sld (k := (i + 2)) hx hb hX hbl hbA hS (by omega) hL dL_law_124 ?_
        have hPc := hP.sub (ws' := (lsW d g li sl le ll la be en mn n m)) [0, 1, 2, 3, 4, 5, 6, 7, 8] rfl
        have hDc := hD.sub (ws' := (lsW d g li sl le ll la be en mn n m)) [0, 1, 2, 3, 4, 5, 6, 7, 8] (by decide) rfl
        have hFc := va_free (wc := (lsW d g li sl le ll la be en mn n m)) hD hS hA [0, 1, 2, 3, 4, 5, 6, 7, 8] rfl
        refine va_calli (va_runV (As := [.int (xs (i + 1)), .int (xs (i + 2))]) (rest := []) ⟨hx, hb, hml, hown, hts⟩ (met_copy l dC dI d g li sl le ll la be en mn n m a b (xs (i + 1)) (xs (i + 2)) H.size hI) (cwV 2 hts (lw_V q77 q78 q79 q1 q80) rfl rfl rfl (by decide +kernel) ⟨Nat.le_of_ble_eq_true rfl, Nat.le_of_ble_eq_true rfl⟩) ⟨ls_blind, va_recv hK hPc (ci := 0) (q0 := 0) rfl rfl, ls_pre hPc hK hDc⟩ rfl rfl hl.1 rfl (lv_room (Nat.le_of_ble_eq_true rfl)) dL_law_125 ⟨Nat.le_refl _, Nat.le_refl _⟩) hS (fun q _ h => hFc q h) hFc (fun r1 u t H1 locs ht hvm hw hB hz1 hk1 hS => ?_)
        obtain ⟨li2, sl2, la2, be2, mn2, m2⟩ := u
        obtain ⟨hP1, hK1, hD1⟩ := hB
        rw [ht] at hP1
        obtain ⟨hP, hD⟩ := va_join (wr := (mdW d g2 a b r n m)) (w1 := (lsW d g li2 sl2 le ll la2 be2 en mn2 n m2)) hP hD [0, 1, 2, 3, 4, 5, 6, 7, 8] [9, 10, 11, 12] rfl rfl (by decide) (by decide) hk1 hFc hP1 hD1
        generalize H1 = H at hP hS ⊢
        have hP : va_P (dC, dI) vwCl (lsW d g li2 sl2 le ll la2 be2 en mn2 n m2 ++ mdW d g2 a b r n m) H := hP.sub [4, 5, 6, 7, 8, 9, 10, 11, 12, 0, 1, 2, 3] rfl
        have hD : va_D A (lsW d g li2 sl2 le ll la2 be2 en mn2 n m2 ++ mdW d g2 a b r n m) := hD.sub [4, 5, 6, 7, 8, 9, 10, 11, 12, 0, 1, 2, 3] (by decide) rfl
        have hw1 := hw
        refine lv_aload_n hx hb dL_law_128 rfl (lv_at hl 2 rfl) ?_
        refine lv_aload_n hx hb dL_law_129 rfl (lv_at hl 0 rfl) ?_
        refine lv_iload_n hx hb dL_law_130 rfl (lv_at hl 3 rfl) ?_
        refine lv_iconst (v := nI 1) hx hb dL_law_131 (by decide) ?_
        refine lv_iadd hx hb dL_law_132 ?_
        refine ls_top (nI_add i 1) ?_
        refine ls_sld (k := (i + 1)) hx hb hX hbl hbA hS (by omega) hL dL_law_133 ?_
        refine lv_aload_n hx hb dL_law_134 rfl (lv_at hl 0 rfl) ?_
        refine lv_iload_n hx hb dL_law_135 rfl (lv_at hl 3 rfl) ?_
        refine lv_iconst (v := nI 2) hx hb dL_law_136 (by decide) ?_
        refine lv_iadd hx hb dL_law_137 ?_
        refine ls_top (nI_add i 2) ?_
        refine ls_sld (k := (i + 2)) hx hb hX hbl hbA hS (by omega) hL dL_law_138 ?_
        have hPc := hP.sub (ws' := (mdW d g2 a b r n m)) [9, 10, 11, 12] rfl
        have hDc := hD.sub (ws' := (mdW d g2 a b r n m)) [9, 10, 11, 12] (by decide) rfl
        have hFc := va_free (wc := (mdW d g2 a b r n m)) hD hS hA [9, 10, 11, 12] rfl
        refine va_calli (va_runV (As := [.int (xs (i + 1)), .int (xs (i + 2))]) (rest := [.int r1]) ⟨hx, hb, hml, hown, hts⟩ (met_mcopy l dC dI d g2 a b r n m (xs (i + 1)) (xs (i + 2)) H.size i1 i2) (cwV 2 hts (lw_V q121 q122 q123 q3 q124) rfl rfl rfl (by decide +kernel) ⟨Nat.le_of_ble_eq_true rfl, Nat.le_of_ble_eq_true rfl⟩) ⟨ls_blind, va_recv hK hPc (ci := 2) (q0 := 0) rfl rfl, ls_pre hPc hK hDc⟩ rfl rfl hl.1 rfl (lv_room (Nat.le_of_ble_eq_true rfl)) dL_law_139 ⟨Nat.le_refl _, Nat.le_refl _⟩) hS (fun q _ h => hFc q h) hFc (fun r2 u t H1 locs ht hvm hw hB hz1 hk1 hS => ?_)
        obtain ⟨b2, m3⟩ := u
        obtain ⟨hP1, hK1, hD1⟩ := hB
        rw [ht] at hP1
        obtain ⟨hP, hD⟩ := va_join (wr := (lsW d g li2 sl2 le ll la2 be2 en mn2 n m2)) (w1 := (mdW d g2 a b2 r n m3)) hP hD [9, 10, 11, 12] [0, 1, 2, 3, 4, 5, 6, 7, 8] rfl rfl (by decide) (by decide) hk1 hFc hP1 hD1
        generalize H1 = H at hP hS ⊢
        have hP : va_P (dC, dI) vwCl (lsW d g li2 sl2 le ll la2 be2 en mn2 n m2 ++ mdW d g2 a b2 r n m3) H := hP.sub [0, 1, 2, 3, 4, 5, 6, 7, 8, 9, 10, 11, 12] rfl
        have hD : va_D A (lsW d g li2 sl2 le ll la2 be2 en mn2 n m2 ++ mdW d g2 a b2 r n m3) := hD.sub [0, 1, 2, 3, 4, 5, 6, 7, 8, 9, 10, 11, 12] (by decide) rfl
        have hw2 := hw
        rcases hw1 with ⟨w1, w2, w3, w4⟩ | ⟨w1, w2, w3, w4⟩ <;> rcases hw2 with ⟨v1, v2, v3, v4⟩ | ⟨v1, v2, v3, v4⟩
        · have w3 : m2 = m := w3
          have v3 : b2 = b := v3
          have v4 : m3 = m := v4
          rw [w3, v3, v4] at hP hD
          refine lv_icmp_eq (tgt := 171) hx hb dL_law_142 (by decide) (fun hq => ?_) (fun hq => absurd (w2.trans v2.symm) hq)
          exact tail a b li2 sl2 le ll la2 be2 en r mn2 n m H locs ls w4 hP hD hS hl
        · exact absurd v1 (by omega)
        · exact absurd v1 (by omega)
        · have w3 : m2 = (m + (cp_K n m (cp_f (xs (i + 1)) % n) (cp_f (xs (i + 2)) % 33))) := w3
          have v3 : b2 = (cp_B a b (cp_f (xs (i + 1)) % n) m (cp_K n m (cp_f (xs (i + 1)) % n) (cp_f (xs (i + 2)) % 33))) := v3
          have v4 : m3 = (m + (cp_K n m (cp_f (xs (i + 1)) % n) (cp_f (xs (i + 2)) % 33))) := v4
          rw [w3, v3, v4] at hP hD
          refine lv_icmp_eq (tgt := 171) hx hb dL_law_142 (by decide) (fun hq => ?_) (fun hq => absurd (w2.trans v2.symm) hq)
          exact tail a (cp_B a b (cp_f (xs (i + 1)) % n) m (cp_K n m (cp_f (xs (i + 1)) % n) (cp_f (xs (i + 2)) % 33))) li2 sl2 le ll la2 be2 en r mn2 n (m + (cp_K n m (cp_f (xs (i + 1)) % n) (cp_f (xs (i + 2)) % 33))) H locs ls w4 hP hD hS hl
      · refine lv_tableIn (off := 115) (tgt := 147) hx hb dL_law_32 (by decide) (by decide) (by decide) (by decide) ?_
        refine lv_aload_n hx hb dL_law_147 rfl (lv_at hl 1 rfl) ?_
        have hPc := hP.sub (ws' := (lsW d g li sl le ll la be en mn n m)) [0, 1, 2, 3, 4, 5, 6, 7, 8] rfl
        have hDc := hD.sub (ws' := (lsW d g li sl le ll la be en mn n m)) [0, 1, 2, 3, 4, 5, 6, 7, 8] (by decide) rfl
        have hFc := va_free (wc := (lsW d g li sl le ll la be en mn n m)) hD hS hA [0, 1, 2, 3, 4, 5, 6, 7, 8] rfl
        refine va_calli (va_runV (As := []) (rest := []) ⟨hx, hb, hml, hown, hts⟩ (met_turn l dC dI d g li sl le ll la be en mn n m a b H.size hI) (cwV 0 hts (lw_V q86 q87 q88 q1 q89) rfl rfl rfl (by decide +kernel) ⟨Nat.le_of_ble_eq_true rfl, Nat.le_of_ble_eq_true rfl⟩) ⟨ls_blind, va_recv hK hPc (ci := 0) (q0 := 0) rfl rfl, ls_pre hPc hK hDc⟩ rfl rfl hl.1 rfl (lv_room (Nat.le_of_ble_eq_true rfl)) dL_law_148 ⟨Nat.le_refl _, Nat.le_refl _⟩) hS (fun q _ h => hFc q h) hFc (fun r1 u t H1 locs ht hvm hw hB hz1 hk1 hS => ?_)
        obtain ⟨en2, rfl⟩ : ∃ z2, z2 = u := ⟨_, rfl⟩
        obtain ⟨hP1, hK1, hD1⟩ := hB
        rw [ht] at hP1
        obtain ⟨hP, hD⟩ := va_join (wr := (mdW d g2 a b r n m)) (w1 := (lsW d g li sl le ll la be en2 mn n m)) hP hD [0, 1, 2, 3, 4, 5, 6, 7, 8] [9, 10, 11, 12] rfl rfl (by decide) (by decide) hk1 hFc hP1 hD1
        generalize H1 = H at hP hS ⊢
        have hP : va_P (dC, dI) vwCl (lsW d g li sl le ll la be en2 mn n m ++ mdW d g2 a b r n m) H := hP.sub [4, 5, 6, 7, 8, 9, 10, 11, 12, 0, 1, 2, 3] rfl
        have hD : va_D A (lsW d g li sl le ll la be en2 mn n m ++ mdW d g2 a b r n m) := hD.sub [4, 5, 6, 7, 8, 9, 10, 11, 12, 0, 1, 2, 3] (by decide) rfl
        have hw1 := hw
        refine lv_aload_n hx hb dL_law_151 rfl (lv_at hl 2 rfl) ?_
        have hPc := hP.sub (ws' := (mdW d g2 a b r n m)) [9, 10, 11, 12] rfl
        have hDc := hD.sub (ws' := (mdW d g2 a b r n m)) [9, 10, 11, 12] (by decide) rfl
        have hFc := va_free (wc := (mdW d g2 a b r n m)) hD hS hA [9, 10, 11, 12] rfl
        refine va_calli (va_runV (As := []) (rest := [.int r1]) ⟨hx, hb, hml, hown, hts⟩ (met_mturn l dC dI d g2 a b r n m H.size i1 i2) (cwV 0 hts (lw_V q126 q127 q128 q3 q129) rfl rfl rfl (by decide +kernel) ⟨Nat.le_of_ble_eq_true rfl, Nat.le_of_ble_eq_true rfl⟩) ⟨ls_blind, va_recv hK hPc (ci := 2) (q0 := 0) rfl rfl, ls_pre hPc hK hDc⟩ rfl rfl hl.1 rfl (lv_room (Nat.le_of_ble_eq_true rfl)) dL_law_152 ⟨Nat.le_refl _, Nat.le_refl _⟩) hS (fun q _ h => hFc q h) hFc (fun r2 u t H1 locs ht hvm hw hB hz1 hk1 hS => ?_)
        obtain ⟨rr2, rfl⟩ : ∃ z2, z2 = u := ⟨_, rfl⟩
        obtain ⟨hP1, hK1, hD1⟩ := hB
        rw [ht] at hP1
        obtain ⟨hP, hD⟩ := va_join (wr := (lsW d g li sl le ll la be en2 mn n m)) (w1 := (mdW d g2 a b rr2 n m)) hP hD [9, 10, 11, 12] [0, 1, 2, 3, 4, 5, 6, 7, 8] rfl rfl (by decide) (by decide) hk1 hFc hP1 hD1
        generalize H1 = H at hP hS ⊢
        have hP : va_P (dC, dI) vwCl (lsW d g li sl le ll la be en2 mn n m ++ mdW d g2 a b rr2 n m) H := hP.sub [0, 1, 2, 3, 4, 5, 6, 7, 8, 9, 10, 11, 12] rfl
        have hD : va_D A (lsW d g li sl le ll la be en2 mn n m ++ mdW d g2 a b rr2 n m) := hD.sub [0, 1, 2, 3, 4, 5, 6, 7, 8, 9, 10, 11, 12] (by decide) rfl
        have hw2 := hw
        refine lv_icmp_eq (tgt := 171) hx hb dL_law_155 (by decide) (fun hq => ?_) (fun hq => absurd (Eq.trans hw1 (Eq.symm hw2)) hq)
        exact tail a b li sl le ll la be en2 rr2 mn n m H locs ls hI hP hD hS hl
      · refine lv_tableIn (off := 128) (tgt := 160) hx hb dL_law_32 (by decide) (by decide) (by decide) (by decide) ?_
        refine lv_aload_n hx hb dL_law_160 rfl (lv_at hl 1 rfl) ?_
        have hPc := hP.sub (ws' := (lsW d g li sl le ll la be en mn n m)) [0, 1, 2, 3, 4, 5, 6, 7, 8] rfl
        have hDc := hD.sub (ws' := (lsW d g li sl le ll la be en mn n m)) [0, 1, 2, 3, 4, 5, 6, 7, 8] (by decide) rfl
        have hFc := va_free (wc := (lsW d g li sl le ll la be en mn n m)) hD hS hA [0, 1, 2, 3, 4, 5, 6, 7, 8] rfl
        refine va_callv (va_runV (As := []) (rest := []) ⟨hx, hb, hml, hown, hts⟩ (met_clear l dC dI d g li sl le ll la be en mn n m H.size) (cwV 0 hts (lw_V q90 q35 q36 q1 q37) rfl rfl rfl (by decide +kernel) ⟨Nat.le_of_ble_eq_true rfl, Nat.le_of_ble_eq_true rfl⟩) ⟨ls_blind, va_recv hK hPc (ci := 0) (q0 := 0) rfl rfl, ls_pre hPc hK hDc⟩ rfl rfl hl.1 rfl (lv_room (Nat.le_of_ble_eq_true rfl)) dL_law_161 ⟨Nat.le_refl _, Nat.le_refl _⟩) hS (fun q _ h => hFc q h) hFc (fun u t H1 locs ht hvm hw hB hz1 hk1 hS => ?_)
        obtain ⟨sl2, la2⟩ := u
        obtain ⟨hP1, hK1, hD1⟩ := hB
        rw [ht] at hP1
        obtain ⟨hP, hD⟩ := va_join (wr := (mdW d g2 a b r n m)) (w1 := (lsW d g li sl2 le ll la2 be en 0 0 0)) hP hD [0, 1, 2, 3, 4, 5, 6, 7, 8] [9, 10, 11, 12] rfl rfl (by decide) (by decide) hk1 hFc hP1 hD1
        generalize H1 = H at hP hS ⊢
        have hP : va_P (dC, dI) vwCl (lsW d g li sl2 le ll la2 be en 0 0 0 ++ mdW d g2 a b r n m) H := hP.sub [4, 5, 6, 7, 8, 9, 10, 11, 12, 0, 1, 2, 3] rfl
        have hD : va_D A (lsW d g li sl2 le ll la2 be en 0 0 0 ++ mdW d g2 a b r n m) := hD.sub [4, 5, 6, 7, 8, 9, 10, 11, 12, 0, 1, 2, 3] (by decide) rfl
        have hw1 := hw
        refine lv_aload_n hx hb dL_law_164 rfl (lv_at hl 2 rfl) ?_
        have hPc := hP.sub (ws' := (mdW d g2 a b r n m)) [9, 10, 11, 12] rfl
        have hDc := hD.sub (ws' := (mdW d g2 a b r n m)) [9, 10, 11, 12] (by decide) rfl
        have hFc := va_free (wc := (mdW d g2 a b r n m)) hD hS hA [9, 10, 11, 12] rfl
        refine va_callv (va_runV (As := []) (rest := []) ⟨hx, hb, hml, hown, hts⟩ (met_mclear l dC dI d g2 a b r n m H.size) (cwV 0 hts (lw_V q130 q131 q132 q3 q133) rfl rfl rfl (by decide +kernel) ⟨Nat.le_of_ble_eq_true rfl, Nat.le_of_ble_eq_true rfl⟩) ⟨ls_blind, va_recv hK hPc (ci := 2) (q0 := 0) rfl rfl, ls_pre hPc hK hDc⟩ rfl rfl hl.1 rfl (lv_room (Nat.le_of_ble_eq_true rfl)) dL_law_165 ⟨Nat.le_refl _, Nat.le_refl _⟩) hS (fun q _ h => hFc q h) hFc (fun u t H1 locs ht hvm hw hB hz1 hk1 hS => ?_)
        obtain ⟨hP1, hK1, hD1⟩ := hB
        rw [ht] at hP1
        obtain ⟨hP, hD⟩ := va_join (wr := (lsW d g li sl2 le ll la2 be en 0 0 0)) (w1 := (mdW d g2 a b r 0 0)) hP hD [9, 10, 11, 12] [0, 1, 2, 3, 4, 5, 6, 7, 8] rfl rfl (by decide) (by decide) hk1 hFc hP1 hD1
        generalize H1 = H at hP hS ⊢
        have hP : va_P (dC, dI) vwCl (lsW d g li sl2 le ll la2 be en 0 0 0 ++ mdW d g2 a b r 0 0) H := hP.sub [0, 1, 2, 3, 4, 5, 6, 7, 8, 9, 10, 11, 12] rfl
        have hD : va_D A (lsW d g li sl2 le ll la2 be en 0 0 0 ++ mdW d g2 a b r 0 0) := hD.sub [0, 1, 2, 3, 4, 5, 6, 7, 8, 9, 10, 11, 12] (by decide) rfl
        have hw2 := hw
        refine lv_goto (tgt := 171) hx hb dL_law_168 (by decide) ?_
        exact tail a b li sl2 le ll la2 be en r 0 0 0 H locs ls (ls_I_0 hw1.1 hw1.2) hP hD hS hl
      · refine lv_tableOut (tgt := 171) hx hb dL_law_32 (Or.inr (by rw [nI_toInt (by omega)]; omega)) (by decide) ?_
        exact tail a b li sl le ll la be en r mn n m H locs ls hI hP hD hS hl
end
section
set_option maxHeartbeats 4000000 in
set_option maxRecDepth 100000 in
/-- from the entry, for every script of at most 192 ints, the law comes to its end with true -/
theorem whole_start {p : Program} {e : Env} {s : State} {m0 : MethodId} {below : List Frame} {meth : Method} {c : Code} (l : Launch) {sc L : Nat} {xs : Nat → Int32} (hL : L ≤ 192) (C0 : lw_At p s m0 meth c sc L xs) : W p l e room_1 s m0 #[Value.ref sc] below meth c s.heap [] 0 0 (lw_Z below #[Value.ref sc] s) (entryFrame m0 ([Value.ref sc] : List Value).toArray 4) := by
  obtain ⟨hx, hb, hr, hml, hown, hts0, hX, hbl, hlocks, hgv⟩ := id C0
  have hts : ∀ w ∈ lw_all, w.before #[Value.ref sc] s = true := fun w h => hts0 w (lw_all_tbl h)
  obtain ⟨A, hA, hA2⟩ : ∃ A : Nat → Prop, (∀ q, s.heap.size ≤ q → A q) ∧ (∀ q, A q → s.heap.size ≤ q) := ⟨fun q => s.heap.size ≤ q, fun _ h => h, fun _ h => h⟩
  obtain ⟨c0, iS0, hKn0⟩ := u_known (C := RX0) (T := TX0) (N := 8) (n := 8) hts in_X0 (hts _ q6)
  obtain ⟨c1, iS1, hKn1⟩ := u_known (C := RX1) (T := TX1) (N := 3) (n := 3) hts in_X1 (hts _ q14)
  obtain ⟨c2, iS2, hKn2⟩ := u_known (C := RX2) (T := TX2) (N := 5) (n := 5) hts in_X2 (hts _ q92)
  obtain ⟨dC, dI, hKc⟩ : ∃ (dC : Nat → ClassId) (dI : Nat → Nat → Nat), ∀ (k : Nat) (q : vw_C), vwCl[k]? = some q → u_Kn s q.1 q.2.1 q.2.2 (dC k) (dI k) := by
    refine ⟨fun k => if k = 0 then c0 else if k = 1 then c1 else c2, fun k => if k = 0 then iS0 else if k = 1 then iS1 else iS2, ?_⟩
    intro k q hq
    match k, hq with
    | 0, hq => cases hq; exact hKn0
    | 1, hq => cases hq; exact hKn1
    | 2, hq => cases hq; exact hKn2
    | k + 3, hq => simp [vwCl] at hq
  obtain ⟨d, hd1, hd2⟩ := ls_arr (hts _ q33)
  have hS : va_S A s.heap s.heap [] := va_S.rf
  have hK : va_K (dC, dI) vwCl [(d, .int)] s := by
    refine ⟨hKc, fun k q h => ?_⟩
    match k, h with
    | 0, h => cases h; exact ⟨hd1, hd2⟩
    | k + 1, h => simp at h
  have hP : va_P (dC, dI) vwCl [] s.heap := fun k q h => by simp at h
  have hD : va_D A [] := ⟨fun i j p q h => by simp at h, fun k q h => by simp at h⟩
  have hl := lv_entry ([.ref sc]) (n := 4) (Nat.le_of_ble_eq_true rfl)
  rw [lg_entry_eq]
  generalize (lg_sl ([.ref sc]) ++ List.replicate (4 - (lg_sl ([.ref sc])).length) Slot.unset).toArray = ls at hl ⊢
  have hl : lv_has ls 4 [(0, .ref sc)] := hl
  refine va_new (ci := 0) (fs := [.null, .null, .null, .null, .null, .int (nI 0), .int (nI 0), .null]) (C := RX0) (T := TX0) (N := 8) hx hb hts in_X0 tyX0 tyX0_ok hown (hts _ q5) (hts _ q6) (hts _ q1) hK hP hD hS hA rfl (fun j hj => by rcases (show j = 0 ∨ j = 1 ∨ j = 2 ∨ j = 3 ∨ j = 4 ∨ j = 5 ∨ j = 6 ∨ j = 7 by omega) with rfl | rfl | rfl | rfl | rfl | rfl | rfl | rfl <;> rfl) (Nat.le_of_ble_eq_true rfl) (Nat.le_of_ble_eq_true rfl) dL_law_0 (fun x0 H hP hD hS => ?_)
  have hP : va_P (dC, dI) vwCl ([(x0, .inr (0, [.null, .null, .null, .null, .null, .int (nI 0), .int (nI 0), .null]))]) H := hP
  have hD : va_D A ([(x0, .inr (0, [.null, .null, .null, .null, .null, .int (nI 0), .int (nI 0), .null]))]) := hD
  refine lv_dup hx hb dL_law_3 rfl ?_
  have hPc := hP.sub (ws' := [(x0, .inr (0, [.null, .null, .null, .null, .null, .int (nI 0), .int (nI 0), .null]))]) [0] rfl
  have hDc := hD.sub (ws' := [(x0, .inr (0, [.null, .null, .null, .null, .null, .int (nI 0), .int (nI 0), .null]))]) [0] (by decide) rfl
  have hFc := va_free (wc := [(x0, .inr (0, [.null, .null, .null, .null, .null, .int (nI 0), .int (nI 0), .null]))]) hD hS hA [0] rfl
  refine va_callv (va_runI (As := []) (rest := [.ref x0]) ⟨hx, hb, hml, hown, hts⟩ (met_init l dC dI d x0 H.size) (cwI 0 hts (lw_meth q9) rfl rfl rfl (hts _ q1) (hts _ q7) (hts _ q8) rfl (by decide +kernel) ⟨Nat.le_of_ble_eq_true rfl, Nat.le_of_ble_eq_true rfl⟩) ⟨ls_blind, ls_pre hPc hK hDc⟩ rfl rfl hl.1 rfl (lv_room (Nat.le_of_ble_eq_true rfl)) dL_law_4 ⟨Nat.le_of_ble_eq_true rfl, Nat.le_of_ble_eq_true rfl⟩) hS (fun q _ h => hFc q h) hFc (fun u t H1 locs ht hvm hw hB hz1 hk1 hS => ?_)
  obtain ⟨g, sl, la⟩ := u
  obtain ⟨hP1, hK1, hD1⟩ := hB
  rw [ht] at hP1
  obtain ⟨hP, hD⟩ := va_join (wr := []) (w1 := (lsW d g (fun _ => 0) sl (fun _ => 0) (fun _ => 0) la (fun _ => 0) (fun _ => 0) 0 0 0)) hP hD [0] [] rfl rfl (by decide) (by decide) hk1 hFc hP1 hD1
  generalize H1 = H at hP hS ⊢
  have hP : va_P (dC, dI) vwCl (lsW d g (fun _ => 0) sl (fun _ => 0) (fun _ => 0) la (fun _ => 0) (fun _ => 0) 0 0 0) H := hP.sub [0, 1, 2, 3, 4, 5, 6, 7, 8] rfl
  have hD : va_D A (lsW d g (fun _ => 0) sl (fun _ => 0) (fun _ => 0) la (fun _ => 0) (fun _ => 0) 0 0 0) := hD.sub [0, 1, 2, 3, 4, 5, 6, 7, 8] (by decide) rfl
  obtain ⟨e0, e1, e2⟩ := hw
  have e0 : g 0 = x0 := e0
  rw [← e0]
  refine lv_astore_n (lv' := [(1, .ref (g 0)), (0, .ref sc)]) hx hb dL_law_7 rfl hl (by decide) rfl (fun ls hl => ?_)
  refine va_new (ci := 2) (fs := [.null, .null, .int (nI 0), .int (nI 0), .null]) (C := RX2) (T := TX2) (N := 5) hx hb hts in_X2 tyX2 tyX2_ok hown (hts _ q91) (hts _ q92) (hts _ q3) hK hP hD hS hA rfl (fun j hj => by rcases (show j = 0 ∨ j = 1 ∨ j = 2 ∨ j = 3 ∨ j = 4 by omega) with rfl | rfl | rfl | rfl | rfl <;> rfl) (Nat.le_of_ble_eq_true rfl) (Nat.le_of_ble_eq_true rfl) dL_law_8 (fun y0 H hP hD hS => ?_)
  have hP : va_P (dC, dI) vwCl (lsW d g (fun _ => 0) sl (fun _ => 0) (fun _ => 0) la (fun _ => 0) (fun _ => 0) 0 0 0 ++ [(y0, .inr (2, [.null, .null, .int (nI 0), .int (nI 0), .null]))]) H := hP
  have hD : va_D A (lsW d g (fun _ => 0) sl (fun _ => 0) (fun _ => 0) la (fun _ => 0) (fun _ => 0) 0 0 0 ++ [(y0, .inr (2, [.null, .null, .int (nI 0), .int (nI 0), .null]))]) := hD
  refine lv_dup hx hb dL_law_11 rfl ?_
  have hPc := hP.sub (ws' := [(y0, .inr (2, [.null, .null, .int (nI 0), .int (nI 0), .null]))]) [9] rfl
  have hDc := hD.sub (ws' := [(y0, .inr (2, [.null, .null, .int (nI 0), .int (nI 0), .null]))]) [9] (by decide) rfl
  have hFc := va_free (wc := [(y0, .inr (2, [.null, .null, .int (nI 0), .int (nI 0), .null]))]) hD hS hA [9] rfl
  refine va_callv (va_runI (As := []) (rest := [.ref y0]) ⟨hx, hb, hml, hown, hts⟩ (met_minit l dC dI d y0 H.size) (cwI 0 hts (lw_meth q95) rfl rfl rfl (hts _ q3) (hts _ q93) (hts _ q94) rfl (by decide +kernel) ⟨Nat.le_of_ble_eq_true rfl, Nat.le_of_ble_eq_true rfl⟩) ⟨ls_blind, ls_pre hPc hK hDc⟩ rfl rfl hl.1 rfl (lv_room (Nat.le_of_ble_eq_true rfl)) dL_law_12 ⟨Nat.le_of_ble_eq_true rfl, Nat.le_of_ble_eq_true rfl⟩) hS (fun q _ h => hFc q h) hFc (fun u t H1 locs ht hvm hw hB hz1 hk1 hS => ?_)
  obtain ⟨g2, rfl⟩ : ∃ z2, z2 = u := ⟨_, rfl⟩
  obtain ⟨hP1, hK1, hD1⟩ := hB
  rw [ht] at hP1
  obtain ⟨hP, hD⟩ := va_join (wr := (lsW d g (fun _ => 0) sl (fun _ => 0) (fun _ => 0) la (fun _ => 0) (fun _ => 0) 0 0 0)) (w1 := (mdW d g2 (fun _ => 0) (fun _ => 0) (fun _ => 0) 0 0)) hP hD [9] [0, 1, 2, 3, 4, 5, 6, 7, 8] rfl rfl (by decide) (by decide) hk1 hFc hP1 hD1
  generalize H1 = H at hP hS ⊢
  have hP : va_P (dC, dI) vwCl (lsW d g (fun _ => 0) sl (fun _ => 0) (fun _ => 0) la (fun _ => 0) (fun _ => 0) 0 0 0 ++ mdW d g2 (fun _ => 0) (fun _ => 0) (fun _ => 0) 0 0) H := hP.sub [0, 1, 2, 3, 4, 5, 6, 7, 8, 9, 10, 11, 12] rfl
  have hD : va_D A (lsW d g (fun _ => 0) sl (fun _ => 0) (fun _ => 0) la (fun _ => 0) (fun _ => 0) 0 0 0 ++ mdW d g2 (fun _ => 0) (fun _ => 0) (fun _ => 0) 0 0) := hD.sub [0, 1, 2, 3, 4, 5, 6, 7, 8, 9, 10, 11, 12] (by decide) rfl
  have e3 : g2 0 = y0 := hw
  rw [← e3]
  refine lv_astore_n (lv' := [(2, .ref (g2 0)), (1, .ref (g 0)), (0, .ref sc)]) hx hb dL_law_15 rfl hl (by decide) rfl (fun ls hl => ?_)
  refine lv_iconst (v := nI 0) hx hb dL_law_16 (by decide) ?_
  refine lv_istore_n (lv' := [(3, .int (nI 0)), (2, .ref (g2 0)), (1, .ref (g 0)), (0, .ref sc)]) hx hb dL_law_17 rfl hl (by decide) rfl (fun ls hl => ?_)
  refine W.widen (k := 600000) (n := 7290000) (Nat.le_of_ble_eq_true rfl) (Nat.le_of_ble_eq_true rfl) ?_
  exact law_loop hL C0 hK hA hA2 (L + 3) 0 (fun _ => 0) (fun _ => 0) (fun _ => 0) sl (fun _ => 0) (fun _ => 0) la (fun _ => 0) (fun _ => 0) (fun _ => 0) 0 0 0 H locs ls (by omega) (by omega) (ls_I_0 e1 e2) hP hD hS (lv_sub hl [3, 2, 1, 0] rfl)
end
section
-- ===== YOUR PART ENDS =====
set_option maxHeartbeats 4000000 in
theorem lw_walk (l : Launch) (b : Addr) (xs : List Int32) : MetFree l x (headSpec (Jvm.Cond.code x code maxLocals ret :: tables_1) room_1) (lw_P b xs) (fun _ _ _ _ _ => True) lw_Q := by
  refine MetFree.of_bodyS (code := code) (maxLocals := maxLocals) (ret := ret) (by decide) ?_ ?_
  · intro args s m h hn
    obtain ⟨meth, c, h1, h2, h3, h4, h5, h6, -, -⟩ := Cond.code_spec hn (atoms_spec (ws := Jvm.Cond.code x code maxLocals ret :: tables_1) h _ List.mem_cons_self)
    exact ⟨meth, c, h1, h2, h3, h4, h5, h6⟩
  · intro p e s m args below meth c s₁ B hml0 hP _
    obtain ⟨rfl, hx, hbd, hgv⟩ := hP
    obtain ⟨scr, harrAt, hlist, hof, hsmall⟩ := hx
    obtain ⟨hcb, hkn, -, -⟩ := State.arrayAt?_spec harrAt
    have hown : s.vm.findClass R_law = some m.cls := findClass_of_methodNamed B.named
    have hts0 : ∀ c ∈ (Jvm.Cond.code x code maxLocals ret :: tables_1), c.before #[Value.ref b] s = true := atoms_spec (ws := Jvm.Cond.code x code maxLocals ret :: tables_1) B.pre
    have hts : ∀ w ∈ lw_tbl, w.before #[Value.ref b] s = true := k2_hts_sels lw_privs (fun w hw => hts0 w (List.mem_cons_of_mem _ hw)) lw_privs_ok
    have hml : c.maxLocals = 4 := B.maxLocals_eq (hts0 _ List.mem_cons_self)
    have X₀ : Stand p l e room_1 s m #[Value.ref b] below meth c s₁ [] 0 0 := Stand.of_body B
    have hh0 : s₁.heap = s.heap := by rw [B.state]; rfl
    have hsz : scr.slots.size = xs.length := by rw [← Array.length_toList, hlist, List.length_map]
    have hval : ∀ j : Nat, j < xs.length → scr.slots[j]? = some (.int (xs.getD j 0)) := fun j hj => by
      rw [← Array.getElem?_toList, hlist]
      simp [hj]
    have hbl : b < s.heap.size := (Array.getElem?_eq_some_iff.mp hcb).1
    have hX : va_X b xs.length (fun j => xs.getD j 0) s s.heap := ⟨scr, hcb, hof, hkn, hsz, hval⟩
    have K : W p l e room_1 s m #[Value.ref b] below meth c s₁.heap [] 0 0 (lw_Z below #[Value.ref b] s) (entryFrame m ([Value.ref b] : List Value).toArray 4) := by
      rw [hh0]
      exact whole_start l hbd ⟨B.exec, B.bytes, B.returns, hml, hown, hts, hX, hbl, B.notSynchronized, hgv⟩
    obtain ⟨t, a1, o, b1, b2, b3⟩ := K s₁ rfl X₀
    exact ⟨t, o, a1, b1, b2, b3⟩
theorem lw_pre_spec {args : Array Value} {s : State} (h : (Jvm.Cond.and given_1 narrow_1).before args s = true) (hr : rest_1_c.before args s = true) : ∃ (b : Addr) (xs : List Int32), lw_P b xs args s := by
  have hs := flat_of_before _ h
  have hq := flat_of_before _ hr
  have hc : (Cond.count 1).before args s = true := hs _ (by decide +kernel)
  have harr : (Cond.arrayOf (.arg 0) .int).before args s = true := hs _ (by decide +kernel)
  have hle : (Cond.le (.length (.arg 0)) (.int 192)).before args s = true := hs _ (by decide +kernel)
  have hlen : (Cond.isInt (.length (.arg 0))).before args s = true := hq _ (by decide +kernel)
  have hall : (Cond.all (.arg 0) (.isInt (.elem (.arg 0) (.index 0)))).before args s = true := hq _ (by decide +kernel)
  obtain ⟨b, xs, hb, hx⟩ := State.ints_of_pre rfl harr hlen hall
  have hsm : xs.length < 2 ^ 31 := hx.choose_spec.2.2.2
  have hev : (Term.length (.arg 0)).eval args s none [] s = some (.int xs.length.toInt32) := hx.length_eval hb
  have hv := Cond.le_ints hev (show (Term.int 192).eval args s none [] s = some (.int 192) from rfl)
  have hd : xs.length.toInt32 ≤ 192 := by
    simpa [Cond.before, Cond.holds, hv] using hle
  have hN : xs.length ≤ 192 := (Int32.ofNat_le_ofNat hsm (by decide)).mp (show Int32.ofNat xs.length ≤ Int32.ofNat 192 from hd)
  exact ⟨b, xs, Cond.one_arg hc (show args[0]? = some (.ref b) from hb), hx, hN, h⟩
theorem lw_comes (l : Launch) : Comes l x (Jvm.Cond.code x code maxLocals ret :: tables_1) room_1 (fun tb e args s => Calls_1 tb e args s ∧ rest_1 tb e args s ∧ Pre_1 tb e args s)
    (fun _ _ args s o t => lw_Q args s o t) := by
  intro p e ha hc hk s m args below hf hfit hheap happ hpre
  obtain ⟨b, xs, hP⟩ := lw_pre_spec hpre.2.2 hpre.2.1
  obtain ⟨k, o, h1, h2, h3, hQ⟩ := lw_walk l b xs p e ha hc hk s m args below hf ((Spec.applies_iff_loose hf).mp happ).1 hP trivial
  exact ⟨k, o, h1, h2, h3, hQ⟩
theorem lw_frame {s t : State} {o : Outcome} {args : Array Value} (h : Framed s o t [] 600000 7290000) :
    Framed s o t (fieldLocs frame_1_writes args s ++ arrayLocs frame_1_arrays args s ++ staticLocs frame_1_statics s) 600000 7290000 := h
theorem lw_limb (L : Cond) (hL : ∀ (args : Array Value) (s t : State), L.after args s (.returned (some (.int 1))) t = true) :
    ArmFor flags0 classFile x code maxLocals ret World_1 tables_1 room_1 Calls_1 rest_1 Pre_1
      (fun tb e a s o t => postC L tb e a s o t ∧ Framed s o t (fieldLocs frame_1_writes a s ++ arrayLocs frame_1_arrays a s ++ staticLocs frame_1_statics s) 600000 7290000) := by
  intro l _ _ _ p e ha hc hk s m args below hf hfit hheap happ hpre
  obtain ⟨k, o, h1, h2, h3, rfl, hF⟩ := lw_comes l p e ha hc hk s m args below hf hfit hheap happ hpre
  exact ⟨k, _, h1, h2, h3, hL args s _, lw_frame hF⟩
theorem i_vc : Claimed_1_1 ∧ Claimed_1_2 := ⟨lw_limb limb_1_1 (fun args s t => by simp [limb_1_1, Cond.after, Cond.holds, Cond.value]), lw_limb limb_1_2 (fun args s t => Cond.after_iff.mpr (by
  first | (rw [show limb_1_2 = Cond.eq .result (.int 1) from rfl, Cond.eq_ints (x := 1) (y := 1) rfl rfl]; simp; done) | (simp [limb_1_2, Cond.value, Term.eval]; done)))⟩
end
