section
-- ===== PART A: goes FIRST, ahead of the names: the tables' words, and 'selects' of the private methods out of them =====
/-- a private method of a class that the tables say can be made, by its rows of tables_1 -/
def lw_okq (q : MethodName × Nat) : Prop := (q.1.cls ≠ "java/lang/invoke/MethodHandle" ∧ q.1.cls ≠ "java/lang/invoke/VarHandle") ∧ Cond.instantiable q.1.cls q.2 ∈ tables_1 ∧ Cond.privateMethod q.1 ∈ tables_1 ∧ Cond.instanceMethod q.1 ∈ tables_1
def lw_privs : List (MethodName × Nat) := []
def lw_tbl : List Cond := k2_sels lw_privs ++ tables_1
theorem lw_privs_ok : ∀ q ∈ lw_privs, lw_okq q := fun _ h => absurd h List.not_mem_nil
-- ===== ONE list of words for every method: the tables' words that hold all through a run =====
def lw_all : List Cond := lw_tbl.filter goodWord
/-- a word of the tables by its place: claim/WORDS.tsv -/
theorem lw_w {w : Cond} (i : Nat) (h : lw_tbl[i]? = some w) (g : goodWord w = true) : w ∈ lw_all := List.mem_filter.mpr ⟨List.mem_of_getElem? h, g⟩
theorem lw_all_tbl {w : Cond} (h : w ∈ lw_all) : w ∈ lw_tbl := (List.mem_filter.mp h).1
theorem lw_self : GoodIn lw_all lw_all := fun w h => ⟨h, good_of_word (List.mem_filter.mp h).2⟩
/-- a class's field words, by their places -/
theorem lw_in (ws : List Cond) (ps : List Nat) (hp : ws = ps.filterMap (fun i => lw_tbl[i]?)) (hg : ws.all goodWord = true) : ∀ w ∈ ws, w ∈ lw_all := by
  intro w h
  have h1 := List.all_eq_true.mp hg w h
  rw [hp] at h
  obtain ⟨i, -, hi⟩ := List.mem_filterMap.mp h
  exact lw_w i hi h1
/-- the words of a contract for the method y with code b, L locals, answer r -/
abbrev ws_ (y : MethodName) (b : ByteArray) (L : Nat) (r : Option FieldType) : List Cond := Cond.code y b L r :: lw_all
theorem lw_meth {y : MethodName} {b : ByteArray} {L : Nat} {r : Option FieldType} (h : Cond.code y b L r ∈ lw_all) : GoodIn lw_all (ws_ y b L r) := by
  intro w hw
  rcases List.mem_cons.mp hw with e | e
  · rw [e]
    exact lw_self _ h
  · exact lw_self _ e
theorem lw_app {a c : List Cond} (ha : ∀ w ∈ a, w ∈ lw_all) (hc : GoodIn lw_all c) : GoodIn lw_all (a ++ c) := by
  intro w hw
  rcases List.mem_append.mp hw with e | e
  · exact lw_self w (ha w e)
  · exact hc w e
/-- what a call through an object asks: cwV n hts (lw_V ..) -/
theorem lw_V {own : String} {idx : Nat} {C : String} {y : MethodName} {b : ByteArray} {L : Nat} {r : Option FieldType} (h1 : Cond.methodLink own idx y ∈ lw_all) (h2 : Cond.instanceMethod y ∈ lw_all) (h3 : Cond.selects C y y ∈ lw_all) (h4 : Cond.initialized C ∈ lw_all) (h5 : Cond.code y b L r ∈ lw_all) : GoodIn lw_all (wsV own idx C y (ws_ y b L r)) := by
  refine lw_app ?_ (lw_meth h5)
  intro w hw
  simp only [List.mem_cons, List.not_mem_nil, or_false] at hw
  rcases hw with e | e | e | e
  · rw [e]; exact h1
  · rw [e]; exact h2
  · rw [e]; exact h3
  · rw [e]; exact h4
/-- what a static call asks: va_cwS n hts (lw_S ..) -/
theorem lw_S {own : String} {idx : Nat} {y : MethodName} {b : ByteArray} {L : Nat} {r : Option FieldType} (h1 : Cond.methodLink own idx y ∈ lw_all) (h2 : Cond.static y ∈ lw_all) (h3 : Cond.initialized y.cls ∈ lw_all) (h4 : Cond.code y b L r ∈ lw_all) : GoodIn lw_all (va_wsS own idx y (ws_ y b L r)) := by
  refine lw_app ?_ (lw_meth h4)
  intro w hw
  simp only [List.mem_cons, List.not_mem_nil, or_false] at hw
  rcases hw with e | e | e
  · rw [e]; exact h1
  · rw [e]; exact h2
  · rw [e]; exact h3
/-- the words of a contract for a method WITH HANDLERS (hh: its table) -/
abbrev wsW_ (y : MethodName) (b : ByteArray) (L : Nat) (r : Option FieldType) (hh : List (Nat × Nat × Nat × Nat)) : List Cond := Cond.codeWith y b L r hh :: lw_all
theorem lw_methW {y : MethodName} {b : ByteArray} {L : Nat} {r : Option FieldType} {hh : List (Nat × Nat × Nat × Nat)} (h : Cond.codeWith y b L r hh ∈ lw_all) : GoodIn lw_all (wsW_ y b L r hh) := by
  intro w hw
  rcases List.mem_cons.mp hw with e | e
  · rw [e]
    exact lw_self _ h
  · exact lw_self _ e
/-- any list of words by their places (lw_in), good -/
theorem lw_good {ws : List Cond} (h : ∀ w ∈ ws, w ∈ lw_all) : GoodIn lw_all ws := fun w hw => lw_self w (h w hw)
/-- what a call of a method with handlers asks: vx_cwVW n hts (lw_VW ..), vx_cwSW n hts (lw_SW ..) -/
theorem lw_VW {own : String} {idx : Nat} {C : String} {y : MethodName} {b : ByteArray} {L : Nat} {r : Option FieldType} {hh : List (Nat × Nat × Nat × Nat)} (h1 : Cond.methodLink own idx y ∈ lw_all) (h2 : Cond.instanceMethod y ∈ lw_all) (h3 : Cond.selects C y y ∈ lw_all) (h4 : Cond.initialized C ∈ lw_all) (h5 : Cond.codeWith y b L r hh ∈ lw_all) : GoodIn lw_all (wsV own idx C y (wsW_ y b L r hh)) := by
  refine lw_app ?_ (lw_methW h5)
  intro w hw
  simp only [List.mem_cons, List.not_mem_nil, or_false] at hw
  rcases hw with e | e | e | e
  · rw [e]; exact h1
  · rw [e]; exact h2
  · rw [e]; exact h3
  · rw [e]; exact h4
theorem lw_SW {own : String} {idx : Nat} {y : MethodName} {b : ByteArray} {L : Nat} {r : Option FieldType} {hh : List (Nat × Nat × Nat × Nat)} (h1 : Cond.methodLink own idx y ∈ lw_all) (h2 : Cond.static y ∈ lw_all) (h3 : Cond.initialized y.cls ∈ lw_all) (h4 : Cond.codeWith y b L r hh ∈ lw_all) : GoodIn lw_all (va_wsS own idx y (wsW_ y b L r hh)) := by
  refine lw_app ?_ (lw_methW h4)
  intro w hw
  simp only [List.mem_cons, List.not_mem_nil, or_false] at hw
  rcases hw with e | e | e
  · rw [e]; exact h1
  · rw [e]; exact h2
  · rw [e]; exact h3
/-- a word by its place in its run of the tables -/
theorem lw_at {r : List Cond} (hr : ∀ w ∈ r, w ∈ lw_tbl) {w : Cond} (i : Nat) (h : r[i]? = some w) : w ∈ lw_tbl := hr w (List.mem_of_getElem? h)
theorem lw_g {w : Cond} (h : w ∈ lw_tbl) (g : goodWord w = true) : w ∈ lw_all := List.mem_filter.mpr ⟨h, g⟩
theorem lw_ms : ∀ w ∈ k2_sels lw_privs, w ∈ lw_tbl := fun w h => show w ∈ k2_sels lw_privs ++ tables_1 from List.mem_append_left _ h
theorem lw_m0 : ∀ w ∈ tables_1, w ∈ lw_tbl := fun w h => show w ∈ k2_sels lw_privs ++ tables_1 from List.mem_append_right (k2_sels lw_privs) h
end
section
/-! java/lang/Math -/
set_option maxRecDepth 100000
def RJ0 : String := "java/lang/Math"
abbrev cJ0_min : ByteArray := prog_6_method_69_code
def yJ0_min : MethodName := ⟨RJ0, "min", "(II)I"⟩
theorem dJ0_min_0 : decode cJ0_min 0 = .ok (.iload_n 0, 1) := by decide +kernel
theorem dJ0_min_1 : decode cJ0_min 1 = .ok (.iload_n 1, 1) := by decide +kernel
theorem dJ0_min_2 : decode cJ0_min 2 = .ok (.if_icmp .gt 7, 3) := by decide +kernel
theorem dJ0_min_5 : decode cJ0_min 5 = .ok (.iload_n 0, 1) := by decide +kernel
theorem dJ0_min_6 : decode cJ0_min 6 = .ok (.goto 4, 3) := by decide +kernel
theorem dJ0_min_9 : decode cJ0_min 9 = .ok (.iload_n 1, 1) := by decide +kernel
theorem dJ0_min_10 : decode cJ0_min 10 = .ok (.ireturn, 1) := by decide +kernel
abbrev cJ0_min_2 : ByteArray := prog_6_method_70_code
def yJ0_min_2 : MethodName := ⟨RJ0, "min", "(JJ)J"⟩
theorem dJ0_min_2_0 : decode cJ0_min_2 0 = .ok (.lload_n 0, 1) := by decide +kernel
theorem dJ0_min_2_1 : decode cJ0_min_2 1 = .ok (.lload_n 2, 1) := by decide +kernel
theorem dJ0_min_2_2 : decode cJ0_min_2 2 = .ok (.lcmp, 1) := by decide +kernel
theorem dJ0_min_2_3 : decode cJ0_min_2 3 = .ok (.ifCond .gt 7, 3) := by decide +kernel
theorem dJ0_min_2_6 : decode cJ0_min_2 6 = .ok (.lload_n 0, 1) := by decide +kernel
theorem dJ0_min_2_7 : decode cJ0_min_2 7 = .ok (.goto 4, 3) := by decide +kernel
theorem dJ0_min_2_10 : decode cJ0_min_2 10 = .ok (.lload_n 2, 1) := by decide +kernel
theorem dJ0_min_2_11 : decode cJ0_min_2 11 = .ok (.lreturn, 1) := by decide +kernel
theorem q5 : (Jvm.Cond.initialized "java/lang/Math") ∈ lw_all := lw_g (lw_at lw_m0 5 rfl) rfl
theorem q101 : (Jvm.Cond.static ({ cls := "java/lang/Math", name := "min", desc := "(II)I" } : Jvm.MethodName)) ∈ lw_all := lw_g (lw_at lw_m0 101 rfl) rfl
theorem q102 : (Jvm.Cond.code ({ cls := "java/lang/Math", name := "min", desc := "(II)I" } : Jvm.MethodName) prog_6_method_69_code (2 : Nat) (Option.some Jvm.ClassFile.FieldType.int)) ∈ lw_all := lw_g (lw_at lw_m0 102 rfl) rfl
theorem q108 : (Jvm.Cond.static ({ cls := "java/lang/Math", name := "min", desc := "(JJ)J" } : Jvm.MethodName)) ∈ lw_all := lw_g (lw_at lw_m0 108 rfl) rfl
theorem q109 : (Jvm.Cond.code ({ cls := "java/lang/Math", name := "min", desc := "(JJ)J" } : Jvm.MethodName) prog_6_method_70_code (4 : Nat) (Option.some Jvm.ClassFile.FieldType.long)) ∈ lw_all := lw_g (lw_at lw_m0 109 rfl) rfl
/-! java/lang/Object -/
set_option maxRecDepth 100000
def RJ1 : String := "java/lang/Object"
abbrev cJ1_init : ByteArray := object_method_1_code
def yJ1_init : MethodName := ⟨RJ1, "<init>", "()V"⟩
theorem dJ1_init_0 : decode cJ1_init 0 = .ok (.return_, 1) := by decide +kernel
theorem q12 : (Jvm.Cond.instanceMethod ({ cls := "java/lang/Object", name := "<init>", desc := "()V" } : Jvm.MethodName)) ∈ lw_all := lw_g (lw_at lw_m0 12 rfl) rfl
theorem q13 : (Jvm.Cond.code ({ cls := "java/lang/Object", name := "<init>", desc := "()V" } : Jvm.MethodName) object_method_1_code (1 : Nat) (Option.none : Option Jvm.ClassFile.FieldType)) ∈ lw_all := lw_g (lw_at lw_m0 13 rfl) rfl
theorem q27 : (Jvm.Cond.arrayClass Jvm.ClassFile.FieldType.int) ∈ lw_all := lw_g (lw_at lw_m0 27 rfl) rfl
set_option maxRecDepth 100000
theorem q28 : (Jvm.Cond.arrayClass Jvm.ClassFile.FieldType.long) ∈ lw_all := lw_g (lw_at lw_m0 28 rfl) rfl
theorem q0 : (Jvm.Cond.initialized "TrimCodesLaw") ∈ lw_all := lw_g (lw_at lw_m0 0 rfl) rfl
set_option maxRecDepth 100000
theorem q6 : (Jvm.Cond.classLink "TrimCodesLaw" (7 : Nat) "TrimCodes") ∈ lw_all := lw_g (lw_at lw_m0 6 rfl) rfl
theorem q8 : (Jvm.Cond.methodLink "TrimCodesLaw" (9 : Nat) ({ cls := "TrimCodes", name := "<init>", desc := "()V" } : Jvm.MethodName)) ∈ lw_all := lw_g (lw_at lw_m0 8 rfl) rfl
theorem q58 : (Jvm.Cond.methodLink "TrimCodesLaw" (13 : Nat) ({ cls := "TrimCodes", name := "letters", desc := "(I)V" } : Jvm.MethodName)) ∈ lw_all := lw_g (lw_at lw_m0 58 rfl) rfl
theorem q63 : (Jvm.Cond.methodLink "TrimCodesLaw" (18 : Nat) ({ cls := "TrimCodes", name := "limit", desc := "(I)V" } : Jvm.MethodName)) ∈ lw_all := lw_g (lw_at lw_m0 63 rfl) rfl
theorem q67 : (Jvm.Cond.methodLink "TrimCodesLaw" (22 : Nat) ({ cls := "TrimCodes", name := "weight", desc := "(IIIII)V" } : Jvm.MethodName)) ∈ lw_all := lw_g (lw_at lw_m0 67 rfl) rfl
theorem q71 : (Jvm.Cond.methodLink "TrimCodesLaw" (27 : Nat) ({ cls := "TrimCodes", name := "least", desc := "()J" } : Jvm.MethodName)) ∈ lw_all := lw_g (lw_at lw_m0 71 rfl) rfl
theorem q111 : (Jvm.Cond.classLink "TrimCodesLaw" (10 : Nat) "TrimCodesModel") ∈ lw_all := lw_g (lw_at lw_m0 111 rfl) rfl
theorem q113 : (Jvm.Cond.methodLink "TrimCodesLaw" (12 : Nat) ({ cls := "TrimCodesModel", name := "<init>", desc := "()V" } : Jvm.MethodName)) ∈ lw_all := lw_g (lw_at lw_m0 113 rfl) rfl
theorem q136 : (Jvm.Cond.methodLink "TrimCodesLaw" (17 : Nat) ({ cls := "TrimCodesModel", name := "letters", desc := "(I)V" } : Jvm.MethodName)) ∈ lw_all := lw_g (lw_at lw_m0 136 rfl) rfl
theorem q141 : (Jvm.Cond.methodLink "TrimCodesLaw" (21 : Nat) ({ cls := "TrimCodesModel", name := "limit", desc := "(I)V" } : Jvm.MethodName)) ∈ lw_all := lw_g (lw_at lw_m0 141 rfl) rfl
theorem q145 : (Jvm.Cond.methodLink "TrimCodesLaw" (26 : Nat) ({ cls := "TrimCodesModel", name := "weight", desc := "(IIIII)V" } : Jvm.MethodName)) ∈ lw_all := lw_g (lw_at lw_m0 145 rfl) rfl
theorem q149 : (Jvm.Cond.methodLink "TrimCodesLaw" (31 : Nat) ({ cls := "TrimCodesModel", name := "least", desc := "()J" } : Jvm.MethodName)) ∈ lw_all := lw_g (lw_at lw_m0 149 rfl) rfl
/-! TrimCodes$Sums -/
set_option maxRecDepth 100000
def RX1 : String := "TrimCodes$Sums"
def TX1 : u_T := fun k => match k with
  | 0 => ("TrimCodes$Sums", "sorted", "[I", true)
  | _ => ("TrimCodes$Sums", "sum", "[J", true)
def tyX1 : Nat → FieldType := fun k => match k with
  | 0 => .array .int
  | _ => .array .long
abbrev wsX10 : List Cond := u_ws RX1 TX1 2
theorem nmX1 : ∀ a, a < 2 → ∀ b, b < 2 → a ≠ b → (TX1 a).2.1 ≠ (TX1 b).2.1 := by decide +kernel
theorem tyX1_ok : ∀ k, k < 2 → parseFieldDescriptor (TX1 k).2.2.1 = some (tyX1 k) := by decide +kernel
abbrev cX1_init : ByteArray := prog_3_method_1_code
def yX1_init : MethodName := ⟨RX1, "<init>", "()V"⟩
theorem dX1_init_0 : decode cX1_init 0 = .ok (.aload_n 0, 1) := by decide +kernel
theorem dX1_init_1 : decode cX1_init 1 = .ok (.invokespecial 3, 3) := by decide +kernel
theorem dX1_init_4 : decode cX1_init 4 = .ok (.aload_n 0, 1) := by decide +kernel
theorem dX1_init_5 : decode cX1_init 5 = .ok (.bipush 32, 2) := by decide +kernel
theorem dX1_init_7 : decode cX1_init 7 = .ok (.newarray .int, 2) := by decide +kernel
theorem dX1_init_9 : decode cX1_init 9 = .ok (.putfield 9, 3) := by decide +kernel
theorem dX1_init_12 : decode cX1_init 12 = .ok (.aload_n 0, 1) := by decide +kernel
theorem dX1_init_13 : decode cX1_init 13 = .ok (.bipush 33, 2) := by decide +kernel
theorem dX1_init_15 : decode cX1_init 15 = .ok (.newarray .long, 2) := by decide +kernel
theorem dX1_init_17 : decode cX1_init 17 = .ok (.putfield 15, 3) := by decide +kernel
theorem dX1_init_20 : decode cX1_init 20 = .ok (.return_, 1) := by decide +kernel
abbrev cX1_of : ByteArray := prog_3_method_2_code
def yX1_of : MethodName := ⟨RX1, "of", "([II)V"⟩
theorem dX1_of_0 : decode cX1_of 0 = .ok (.iconst 0, 1) := by decide +kernel
theorem dX1_of_1 : decode cX1_of 1 = .ok (.istore_n 3, 1) := by decide +kernel
theorem dX1_of_2 : decode cX1_of 2 = .ok (.iload_n 3, 1) := by decide +kernel
theorem dX1_of_3 : decode cX1_of 3 = .ok (.iload_n 2, 1) := by decide +kernel
theorem dX1_of_4 : decode cX1_of 4 = .ok (.if_icmp .ge 64, 3) := by decide +kernel
theorem dX1_of_7 : decode cX1_of 7 = .ok (.iload_n 3, 1) := by decide +kernel
theorem dX1_of_8 : decode cX1_of 8 = .ok (.istore 4, 2) := by decide +kernel
theorem dX1_of_10 : decode cX1_of 10 = .ok (.iload 4, 2) := by decide +kernel
theorem dX1_of_12 : decode cX1_of 12 = .ok (.ifCond .le 40, 3) := by decide +kernel
theorem dX1_of_15 : decode cX1_of 15 = .ok (.aload_n 0, 1) := by decide +kernel
theorem dX1_of_16 : decode cX1_of 16 = .ok (.getfield 9, 3) := by decide +kernel
theorem dX1_of_19 : decode cX1_of 19 = .ok (.iload 4, 2) := by decide +kernel
theorem dX1_of_21 : decode cX1_of 21 = .ok (.iconst 1, 1) := by decide +kernel
theorem dX1_of_22 : decode cX1_of 22 = .ok (.isub, 1) := by decide +kernel
theorem dX1_of_23 : decode cX1_of 23 = .ok (.iaload, 1) := by decide +kernel
theorem dX1_of_24 : decode cX1_of 24 = .ok (.aload_n 1, 1) := by decide +kernel
theorem dX1_of_25 : decode cX1_of 25 = .ok (.iload_n 3, 1) := by decide +kernel
theorem dX1_of_26 : decode cX1_of 26 = .ok (.iaload, 1) := by decide +kernel
theorem dX1_of_27 : decode cX1_of 27 = .ok (.if_icmp .le 25, 3) := by decide +kernel
theorem dX1_of_30 : decode cX1_of 30 = .ok (.aload_n 0, 1) := by decide +kernel
theorem dX1_of_31 : decode cX1_of 31 = .ok (.getfield 9, 3) := by decide +kernel
theorem dX1_of_34 : decode cX1_of 34 = .ok (.iload 4, 2) := by decide +kernel
theorem dX1_of_36 : decode cX1_of 36 = .ok (.aload_n 0, 1) := by decide +kernel
theorem dX1_of_37 : decode cX1_of 37 = .ok (.getfield 9, 3) := by decide +kernel
theorem dX1_of_40 : decode cX1_of 40 = .ok (.iload 4, 2) := by decide +kernel
theorem dX1_of_42 : decode cX1_of 42 = .ok (.iconst 1, 1) := by decide +kernel
theorem dX1_of_43 : decode cX1_of 43 = .ok (.isub, 1) := by decide +kernel
theorem dX1_of_44 : decode cX1_of 44 = .ok (.iaload, 1) := by decide +kernel
theorem dX1_of_45 : decode cX1_of 45 = .ok (.iastore, 1) := by decide +kernel
theorem dX1_of_46 : decode cX1_of 46 = .ok (.iinc 4 (-1), 3) := by decide +kernel
theorem dX1_of_49 : decode cX1_of 49 = .ok (.goto (-39), 3) := by decide +kernel
theorem dX1_of_52 : decode cX1_of 52 = .ok (.aload_n 0, 1) := by decide +kernel
theorem dX1_of_53 : decode cX1_of 53 = .ok (.getfield 9, 3) := by decide +kernel
theorem dX1_of_56 : decode cX1_of 56 = .ok (.iload 4, 2) := by decide +kernel
theorem dX1_of_58 : decode cX1_of 58 = .ok (.aload_n 1, 1) := by decide +kernel
theorem dX1_of_59 : decode cX1_of 59 = .ok (.iload_n 3, 1) := by decide +kernel
theorem dX1_of_60 : decode cX1_of 60 = .ok (.iaload, 1) := by decide +kernel
theorem dX1_of_61 : decode cX1_of 61 = .ok (.iastore, 1) := by decide +kernel
theorem dX1_of_62 : decode cX1_of 62 = .ok (.iinc 3 1, 3) := by decide +kernel
theorem dX1_of_65 : decode cX1_of 65 = .ok (.goto (-63), 3) := by decide +kernel
theorem dX1_of_68 : decode cX1_of 68 = .ok (.iconst 0, 1) := by decide +kernel
theorem dX1_of_69 : decode cX1_of 69 = .ok (.istore_n 3, 1) := by decide +kernel
theorem dX1_of_70 : decode cX1_of 70 = .ok (.iload_n 3, 1) := by decide +kernel
theorem dX1_of_71 : decode cX1_of 71 = .ok (.iload_n 2, 1) := by decide +kernel
theorem dX1_of_72 : decode cX1_of 72 = .ok (.if_icmp .ge 31, 3) := by decide +kernel
theorem dX1_of_75 : decode cX1_of 75 = .ok (.aload_n 0, 1) := by decide +kernel
theorem dX1_of_76 : decode cX1_of 76 = .ok (.getfield 15, 3) := by decide +kernel
theorem dX1_of_79 : decode cX1_of 79 = .ok (.iload_n 3, 1) := by decide +kernel
theorem dX1_of_80 : decode cX1_of 80 = .ok (.iconst 1, 1) := by decide +kernel
theorem dX1_of_81 : decode cX1_of 81 = .ok (.iadd, 1) := by decide +kernel
theorem dX1_of_82 : decode cX1_of 82 = .ok (.aload_n 0, 1) := by decide +kernel
theorem dX1_of_83 : decode cX1_of 83 = .ok (.getfield 15, 3) := by decide +kernel
theorem dX1_of_86 : decode cX1_of 86 = .ok (.iload_n 3, 1) := by decide +kernel
theorem dX1_of_87 : decode cX1_of 87 = .ok (.laload, 1) := by decide +kernel
theorem dX1_of_88 : decode cX1_of 88 = .ok (.aload_n 0, 1) := by decide +kernel
theorem dX1_of_89 : decode cX1_of 89 = .ok (.getfield 9, 3) := by decide +kernel
theorem dX1_of_92 : decode cX1_of 92 = .ok (.iload_n 3, 1) := by decide +kernel
theorem dX1_of_93 : decode cX1_of 93 = .ok (.iaload, 1) := by decide +kernel
theorem dX1_of_94 : decode cX1_of 94 = .ok (.i2l, 1) := by decide +kernel
theorem dX1_of_95 : decode cX1_of 95 = .ok (.ladd, 1) := by decide +kernel
theorem dX1_of_96 : decode cX1_of 96 = .ok (.lastore, 1) := by decide +kernel
theorem dX1_of_97 : decode cX1_of 97 = .ok (.iinc 3 1, 3) := by decide +kernel
theorem dX1_of_100 : decode cX1_of 100 = .ok (.goto (-30), 3) := by decide +kernel
theorem dX1_of_103 : decode cX1_of 103 = .ok (.return_, 1) := by decide +kernel
abbrev cX1_least : ByteArray := prog_3_method_3_code
def yX1_least : MethodName := ⟨RX1, "least", "(I)J"⟩
theorem dX1_least_0 : decode cX1_least 0 = .ok (.aload_n 0, 1) := by decide +kernel
theorem dX1_least_1 : decode cX1_least 1 = .ok (.getfield 15, 3) := by decide +kernel
theorem dX1_least_4 : decode cX1_least 4 = .ok (.iload_n 1, 1) := by decide +kernel
theorem dX1_least_5 : decode cX1_least 5 = .ok (.laload, 1) := by decide +kernel
theorem dX1_least_6 : decode cX1_least 6 = .ok (.lreturn, 1) := by decide +kernel
theorem q2 : (Jvm.Cond.initialized "TrimCodes$Sums") ∈ lw_all := lw_g (lw_at lw_m0 2 rfl) rfl
theorem q15 : (Jvm.Cond.instantiable "TrimCodes$Sums" (2 : Nat)) ∈ lw_all := lw_g (lw_at lw_m0 15 rfl) rfl
theorem q17 : (Jvm.Cond.instanceMethod ({ cls := "TrimCodes$Sums", name := "<init>", desc := "()V" } : Jvm.MethodName)) ∈ lw_all := lw_g (lw_at lw_m0 17 rfl) rfl
theorem q18 : (Jvm.Cond.code ({ cls := "TrimCodes$Sums", name := "<init>", desc := "()V" } : Jvm.MethodName) prog_3_method_1_code (1 : Nat) (Option.none : Option Jvm.ClassFile.FieldType)) ∈ lw_all := lw_g (lw_at lw_m0 18 rfl) rfl
theorem q19 : (Jvm.Cond.methodLink "TrimCodes$Sums" (3 : Nat) ({ cls := "java/lang/Object", name := "<init>", desc := "()V" } : Jvm.MethodName)) ∈ lw_all := lw_g (lw_at lw_m0 19 rfl) rfl
theorem q20 : (Jvm.Cond.fieldLink "TrimCodes$Sums" (9 : Nat) "TrimCodes$Sums" "sorted" "[I") ∈ lw_all := lw_g (lw_at lw_m0 20 rfl) rfl
theorem q21 : (Jvm.Cond.fieldLink "TrimCodes$Sums" (15 : Nat) "TrimCodes$Sums" "sum" "[J") ∈ lw_all := lw_g (lw_at lw_m0 21 rfl) rfl
theorem q22 : (Jvm.Cond.laysFinal "TrimCodes$Sums" "TrimCodes$Sums" "sorted" "[I") ∈ lw_all := lw_g (lw_at lw_m0 22 rfl) rfl
theorem q23 : (Jvm.Cond.soleField "TrimCodes$Sums" "sorted") ∈ lw_all := lw_g (lw_at lw_m0 23 rfl) rfl
theorem q24 : (Jvm.Cond.laysFinal "TrimCodes$Sums" "TrimCodes$Sums" "sum" "[J") ∈ lw_all := lw_g (lw_at lw_m0 24 rfl) rfl
theorem q25 : (Jvm.Cond.soleField "TrimCodes$Sums" "sum") ∈ lw_all := lw_g (lw_at lw_m0 25 rfl) rfl
theorem q26 : (Jvm.Cond.superclass "TrimCodes$Sums" "java/lang/Object") ∈ lw_all := lw_g (lw_at lw_m0 26 rfl) rfl
theorem q77 : (Jvm.Cond.instanceMethod ({ cls := "TrimCodes$Sums", name := "of", desc := "([II)V" } : Jvm.MethodName)) ∈ lw_all := lw_g (lw_at lw_m0 77 rfl) rfl
theorem q78 : (Jvm.Cond.selects "TrimCodes$Sums" ({ cls := "TrimCodes$Sums", name := "of", desc := "([II)V" } : Jvm.MethodName) ({ cls := "TrimCodes$Sums", name := "of", desc := "([II)V" } : Jvm.MethodName)) ∈ lw_all := lw_g (lw_at lw_m0 78 rfl) rfl
theorem q79 : (Jvm.Cond.code ({ cls := "TrimCodes$Sums", name := "of", desc := "([II)V" } : Jvm.MethodName) prog_3_method_2_code (5 : Nat) (Option.none : Option Jvm.ClassFile.FieldType)) ∈ lw_all := lw_g (lw_at lw_m0 79 rfl) rfl
theorem q104 : (Jvm.Cond.instanceMethod ({ cls := "TrimCodes$Sums", name := "least", desc := "(I)J" } : Jvm.MethodName)) ∈ lw_all := lw_g (lw_at lw_m0 104 rfl) rfl
theorem q105 : (Jvm.Cond.selects "TrimCodes$Sums" ({ cls := "TrimCodes$Sums", name := "least", desc := "(I)J" } : Jvm.MethodName) ({ cls := "TrimCodes$Sums", name := "least", desc := "(I)J" } : Jvm.MethodName)) ∈ lw_all := lw_g (lw_at lw_m0 105 rfl) rfl
theorem q106 : (Jvm.Cond.code ({ cls := "TrimCodes$Sums", name := "least", desc := "(I)J" } : Jvm.MethodName) prog_3_method_3_code (2 : Nat) (Option.some Jvm.ClassFile.FieldType.long)) ∈ lw_all := lw_g (lw_at lw_m0 106 rfl) rfl
theorem in_X1 : ∀ w ∈ wsX10, w ∈ lw_all := lw_in wsX10 [22, 24] (by decide +kernel) (by decide +kernel)
/-! TrimCodes$Level -/
set_option maxRecDepth 100000
def RX2 : String := "TrimCodes$Level"
def TX2 : u_T := fun k => match k with
  | _ => ("TrimCodes$Level", "cost", "[J", true)
def tyX2 : Nat → FieldType := fun k => match k with
  | _ => .array .long
abbrev wsX20 : List Cond := u_ws RX2 TX2 1
theorem nmX2 : ∀ a, a < 1 → ∀ b, b < 1 → a ≠ b → (TX2 a).2.1 ≠ (TX2 b).2.1 := by decide +kernel
theorem tyX2_ok : ∀ k, k < 1 → parseFieldDescriptor (TX2 k).2.2.1 = some (tyX2 k) := by decide +kernel
abbrev cX2_init : ByteArray := prog_2_method_1_code
def yX2_init : MethodName := ⟨RX2, "<init>", "()V"⟩
theorem dX2_init_0 : decode cX2_init 0 = .ok (.aload_n 0, 1) := by decide +kernel
theorem dX2_init_1 : decode cX2_init 1 = .ok (.invokespecial 3, 3) := by decide +kernel
theorem dX2_init_4 : decode cX2_init 4 = .ok (.aload_n 0, 1) := by decide +kernel
theorem dX2_init_5 : decode cX2_init 5 = .ok (.sipush 1089, 3) := by decide +kernel
theorem dX2_init_8 : decode cX2_init 8 = .ok (.newarray .long, 2) := by decide +kernel
theorem dX2_init_10 : decode cX2_init 10 = .ok (.putfield 9, 3) := by decide +kernel
theorem dX2_init_13 : decode cX2_init 13 = .ok (.return_, 1) := by decide +kernel
abbrev cX2_end : ByteArray := prog_2_method_4_code
def yX2_end : MethodName := ⟨RX2, "end", "(I)V"⟩
theorem dX2_end_0 : decode cX2_end 0 = .ok (.iconst 0, 1) := by decide +kernel
theorem dX2_end_1 : decode cX2_end 1 = .ok (.istore_n 2, 1) := by decide +kernel
theorem dX2_end_2 : decode cX2_end 2 = .ok (.iload_n 2, 1) := by decide +kernel
theorem dX2_end_3 : decode cX2_end 3 = .ok (.iload_n 1, 1) := by decide +kernel
theorem dX2_end_4 : decode cX2_end 4 = .ok (.if_icmp .gt 40, 3) := by decide +kernel
theorem dX2_end_7 : decode cX2_end 7 = .ok (.iconst 0, 1) := by decide +kernel
theorem dX2_end_8 : decode cX2_end 8 = .ok (.istore_n 3, 1) := by decide +kernel
theorem dX2_end_9 : decode cX2_end 9 = .ok (.iload_n 3, 1) := by decide +kernel
theorem dX2_end_10 : decode cX2_end 10 = .ok (.iload_n 2, 1) := by decide +kernel
theorem dX2_end_11 : decode cX2_end 11 = .ok (.if_icmp .gt 27, 3) := by decide +kernel
theorem dX2_end_14 : decode cX2_end 14 = .ok (.aload_n 0, 1) := by decide +kernel
theorem dX2_end_15 : decode cX2_end 15 = .ok (.iload_n 2, 1) := by decide +kernel
theorem dX2_end_16 : decode cX2_end 16 = .ok (.iload_n 3, 1) := by decide +kernel
theorem dX2_end_17 : decode cX2_end 17 = .ok (.iload_n 3, 1) := by decide +kernel
theorem dX2_end_18 : decode cX2_end 18 = .ok (.iload_n 2, 1) := by decide +kernel
theorem dX2_end_19 : decode cX2_end 19 = .ok (.if_icmp .ne 7, 3) := by decide +kernel
theorem dX2_end_22 : decode cX2_end 22 = .ok (.lconst 0, 1) := by decide +kernel
theorem dX2_end_23 : decode cX2_end 23 = .ok (.goto 6, 3) := by decide +kernel
theorem dX2_end_26 : decode cX2_end 26 = .ok (.ldc2_w 21, 3) := by decide +kernel
theorem dX2_end_29 : decode cX2_end 29 = .ok (.invokevirtual 23, 3) := by decide +kernel
theorem dX2_end_32 : decode cX2_end 32 = .ok (.iinc 3 1, 3) := by decide +kernel
theorem dX2_end_35 : decode cX2_end 35 = .ok (.goto (-26), 3) := by decide +kernel
theorem dX2_end_38 : decode cX2_end 38 = .ok (.iinc 2 1, 3) := by decide +kernel
theorem dX2_end_41 : decode cX2_end 41 = .ok (.goto (-39), 3) := by decide +kernel
theorem dX2_end_44 : decode cX2_end 44 = .ok (.return_, 1) := by decide +kernel
abbrev cX2_put : ByteArray := prog_2_method_3_code
def yX2_put : MethodName := ⟨RX2, "put", "(IIJ)V"⟩
theorem dX2_put_0 : decode cX2_put 0 = .ok (.aload_n 0, 1) := by decide +kernel
theorem dX2_put_1 : decode cX2_put 1 = .ok (.getfield 9, 3) := by decide +kernel
theorem dX2_put_4 : decode cX2_put 4 = .ok (.iload_n 1, 1) := by decide +kernel
theorem dX2_put_5 : decode cX2_put 5 = .ok (.bipush 33, 2) := by decide +kernel
theorem dX2_put_7 : decode cX2_put 7 = .ok (.imul, 1) := by decide +kernel
theorem dX2_put_8 : decode cX2_put 8 = .ok (.iload_n 2, 1) := by decide +kernel
theorem dX2_put_9 : decode cX2_put 9 = .ok (.iadd, 1) := by decide +kernel
theorem dX2_put_10 : decode cX2_put 10 = .ok (.lload_n 3, 1) := by decide +kernel
theorem dX2_put_11 : decode cX2_put 11 = .ok (.lastore, 1) := by decide +kernel
theorem dX2_put_12 : decode cX2_put 12 = .ok (.return_, 1) := by decide +kernel
abbrev cX2_above : ByteArray := prog_2_method_5_code
def yX2_above : MethodName := ⟨RX2, "above", "(LTrimCodes$Level;LTrimCodes$Sums;I)V"⟩
theorem dX2_above_0 : decode cX2_above 0 = .ok (.iconst 0, 1) := by decide +kernel
theorem dX2_above_1 : decode cX2_above 1 = .ok (.istore 4, 2) := by decide +kernel
theorem dX2_above_3 : decode cX2_above 3 = .ok (.iload 4, 2) := by decide +kernel
theorem dX2_above_5 : decode cX2_above 5 = .ok (.iload_n 3, 1) := by decide +kernel
theorem dX2_above_6 : decode cX2_above 6 = .ok (.if_icmp .gt 42, 3) := by decide +kernel
theorem dX2_above_9 : decode cX2_above 9 = .ok (.iconst 0, 1) := by decide +kernel
theorem dX2_above_10 : decode cX2_above 10 = .ok (.istore 5, 2) := by decide +kernel
theorem dX2_above_12 : decode cX2_above 12 = .ok (.iload 5, 2) := by decide +kernel
theorem dX2_above_14 : decode cX2_above 14 = .ok (.iload 4, 2) := by decide +kernel
theorem dX2_above_16 : decode cX2_above 16 = .ok (.if_icmp .gt 26, 3) := by decide +kernel
theorem dX2_above_19 : decode cX2_above 19 = .ok (.aload_n 0, 1) := by decide +kernel
theorem dX2_above_20 : decode cX2_above 20 = .ok (.iload 4, 2) := by decide +kernel
theorem dX2_above_22 : decode cX2_above 22 = .ok (.iload 5, 2) := by decide +kernel
theorem dX2_above_24 : decode cX2_above 24 = .ok (.aload_n 1, 1) := by decide +kernel
theorem dX2_above_25 : decode cX2_above 25 = .ok (.aload_n 2, 1) := by decide +kernel
theorem dX2_above_26 : decode cX2_above 26 = .ok (.iload 4, 2) := by decide +kernel
theorem dX2_above_28 : decode cX2_above 28 = .ok (.iload 5, 2) := by decide +kernel
theorem dX2_above_30 : decode cX2_above 30 = .ok (.invokestatic 27, 3) := by decide +kernel
theorem dX2_above_33 : decode cX2_above 33 = .ok (.invokevirtual 23, 3) := by decide +kernel
theorem dX2_above_36 : decode cX2_above 36 = .ok (.iinc 5 1, 3) := by decide +kernel
theorem dX2_above_39 : decode cX2_above 39 = .ok (.goto (-27), 3) := by decide +kernel
theorem dX2_above_42 : decode cX2_above 42 = .ok (.iinc 4 1, 3) := by decide +kernel
theorem dX2_above_45 : decode cX2_above 45 = .ok (.goto (-42), 3) := by decide +kernel
theorem dX2_above_48 : decode cX2_above 48 = .ok (.return_, 1) := by decide +kernel
abbrev cX2_best : ByteArray := prog_2_method_6_code
def yX2_best : MethodName := ⟨RX2, "best", "(LTrimCodes$Level;LTrimCodes$Sums;II)J"⟩
theorem dX2_best_0 : decode cX2_best 0 = .ok (.iload_n 2, 1) := by decide +kernel
theorem dX2_best_1 : decode cX2_best 1 = .ok (.iload_n 3, 1) := by decide +kernel
theorem dX2_best_2 : decode cX2_best 2 = .ok (.if_icmp .ne 5, 3) := by decide +kernel
theorem dX2_best_5 : decode cX2_best 5 = .ok (.lconst 0, 1) := by decide +kernel
theorem dX2_best_6 : decode cX2_best 6 = .ok (.lreturn, 1) := by decide +kernel
theorem dX2_best_7 : decode cX2_best 7 = .ok (.ldc2_w 21, 3) := by decide +kernel
theorem dX2_best_10 : decode cX2_best 10 = .ok (.lstore 4, 2) := by decide +kernel
theorem dX2_best_12 : decode cX2_best 12 = .ok (.iconst 0, 1) := by decide +kernel
theorem dX2_best_13 : decode cX2_best 13 = .ok (.istore 6, 2) := by decide +kernel
theorem dX2_best_15 : decode cX2_best 15 = .ok (.iload 6, 2) := by decide +kernel
theorem dX2_best_17 : decode cX2_best 17 = .ok (.iload_n 3, 1) := by decide +kernel
theorem dX2_best_18 : decode cX2_best 18 = .ok (.if_icmp .ge 54, 3) := by decide +kernel
theorem dX2_best_21 : decode cX2_best 21 = .ok (.iload_n 2, 1) := by decide +kernel
theorem dX2_best_22 : decode cX2_best 22 = .ok (.iload 6, 2) := by decide +kernel
theorem dX2_best_24 : decode cX2_best 24 = .ok (.isub, 1) := by decide +kernel
theorem dX2_best_25 : decode cX2_best 25 = .ok (.istore 7, 2) := by decide +kernel
theorem dX2_best_27 : decode cX2_best 27 = .ok (.aload_n 0, 1) := by decide +kernel
theorem dX2_best_28 : decode cX2_best 28 = .ok (.iload 7, 2) := by decide +kernel
theorem dX2_best_30 : decode cX2_best 30 = .ok (.iconst 2, 1) := by decide +kernel
theorem dX2_best_31 : decode cX2_best 31 = .ok (.iload_n 3, 1) := by decide +kernel
theorem dX2_best_32 : decode cX2_best 32 = .ok (.iload 6, 2) := by decide +kernel
theorem dX2_best_34 : decode cX2_best 34 = .ok (.isub, 1) := by decide +kernel
theorem dX2_best_35 : decode cX2_best 35 = .ok (.imul, 1) := by decide +kernel
theorem dX2_best_36 : decode cX2_best 36 = .ok (.invokevirtual 31, 3) := by decide +kernel
theorem dX2_best_39 : decode cX2_best 39 = .ok (.lstore 8, 2) := by decide +kernel
theorem dX2_best_41 : decode cX2_best 41 = .ok (.lload 8, 2) := by decide +kernel
theorem dX2_best_43 : decode cX2_best 43 = .ok (.ldc2_w 21, 3) := by decide +kernel
theorem dX2_best_46 : decode cX2_best 46 = .ok (.lcmp, 1) := by decide +kernel
theorem dX2_best_47 : decode cX2_best 47 = .ok (.ifCond .ge 19, 3) := by decide +kernel
theorem dX2_best_50 : decode cX2_best 50 = .ok (.lload 4, 2) := by decide +kernel
theorem dX2_best_52 : decode cX2_best 52 = .ok (.lload 8, 2) := by decide +kernel
theorem dX2_best_54 : decode cX2_best 54 = .ok (.aload_n 1, 1) := by decide +kernel
theorem dX2_best_55 : decode cX2_best 55 = .ok (.iload 7, 2) := by decide +kernel
theorem dX2_best_57 : decode cX2_best 57 = .ok (.invokevirtual 35, 3) := by decide +kernel
theorem dX2_best_60 : decode cX2_best 60 = .ok (.ladd, 1) := by decide +kernel
theorem dX2_best_61 : decode cX2_best 61 = .ok (.invokestatic 41, 3) := by decide +kernel
theorem dX2_best_64 : decode cX2_best 64 = .ok (.lstore 4, 2) := by decide +kernel
theorem dX2_best_66 : decode cX2_best 66 = .ok (.iinc 6 1, 3) := by decide +kernel
theorem dX2_best_69 : decode cX2_best 69 = .ok (.goto (-54), 3) := by decide +kernel
theorem dX2_best_72 : decode cX2_best 72 = .ok (.lload 4, 2) := by decide +kernel
theorem dX2_best_74 : decode cX2_best 74 = .ok (.lreturn, 1) := by decide +kernel
abbrev cX2_get : ByteArray := prog_2_method_2_code
def yX2_get : MethodName := ⟨RX2, "get", "(II)J"⟩
theorem dX2_get_0 : decode cX2_get 0 = .ok (.aload_n 0, 1) := by decide +kernel
theorem dX2_get_1 : decode cX2_get 1 = .ok (.getfield 9, 3) := by decide +kernel
theorem dX2_get_4 : decode cX2_get 4 = .ok (.iload_n 1, 1) := by decide +kernel
theorem dX2_get_5 : decode cX2_get 5 = .ok (.bipush 33, 2) := by decide +kernel
theorem dX2_get_7 : decode cX2_get 7 = .ok (.imul, 1) := by decide +kernel
theorem dX2_get_8 : decode cX2_get 8 = .ok (.iload_n 2, 1) := by decide +kernel
theorem dX2_get_9 : decode cX2_get 9 = .ok (.iload_n 1, 1) := by decide +kernel
theorem dX2_get_10 : decode cX2_get 10 = .ok (.invokestatic 15, 3) := by decide +kernel
theorem dX2_get_13 : decode cX2_get 13 = .ok (.iadd, 1) := by decide +kernel
theorem dX2_get_14 : decode cX2_get 14 = .ok (.laload, 1) := by decide +kernel
theorem dX2_get_15 : decode cX2_get 15 = .ok (.lreturn, 1) := by decide +kernel
theorem q3 : (Jvm.Cond.initialized "TrimCodes$Level") ∈ lw_all := lw_g (lw_at lw_m0 3 rfl) rfl
theorem q30 : (Jvm.Cond.instantiable "TrimCodes$Level" (1 : Nat)) ∈ lw_all := lw_g (lw_at lw_m0 30 rfl) rfl
theorem q32 : (Jvm.Cond.instanceMethod ({ cls := "TrimCodes$Level", name := "<init>", desc := "()V" } : Jvm.MethodName)) ∈ lw_all := lw_g (lw_at lw_m0 32 rfl) rfl
theorem q33 : (Jvm.Cond.code ({ cls := "TrimCodes$Level", name := "<init>", desc := "()V" } : Jvm.MethodName) prog_2_method_1_code (1 : Nat) (Option.none : Option Jvm.ClassFile.FieldType)) ∈ lw_all := lw_g (lw_at lw_m0 33 rfl) rfl
theorem q34 : (Jvm.Cond.methodLink "TrimCodes$Level" (3 : Nat) ({ cls := "java/lang/Object", name := "<init>", desc := "()V" } : Jvm.MethodName)) ∈ lw_all := lw_g (lw_at lw_m0 34 rfl) rfl
theorem q35 : (Jvm.Cond.fieldLink "TrimCodes$Level" (9 : Nat) "TrimCodes$Level" "cost" "[J") ∈ lw_all := lw_g (lw_at lw_m0 35 rfl) rfl
theorem q36 : (Jvm.Cond.laysFinal "TrimCodes$Level" "TrimCodes$Level" "cost" "[J") ∈ lw_all := lw_g (lw_at lw_m0 36 rfl) rfl
theorem q37 : (Jvm.Cond.soleField "TrimCodes$Level" "cost") ∈ lw_all := lw_g (lw_at lw_m0 37 rfl) rfl
theorem q38 : (Jvm.Cond.superclass "TrimCodes$Level" "java/lang/Object") ∈ lw_all := lw_g (lw_at lw_m0 38 rfl) rfl
theorem q81 : (Jvm.Cond.instanceMethod ({ cls := "TrimCodes$Level", name := "end", desc := "(I)V" } : Jvm.MethodName)) ∈ lw_all := lw_g (lw_at lw_m0 81 rfl) rfl
theorem q82 : (Jvm.Cond.selects "TrimCodes$Level" ({ cls := "TrimCodes$Level", name := "end", desc := "(I)V" } : Jvm.MethodName) ({ cls := "TrimCodes$Level", name := "end", desc := "(I)V" } : Jvm.MethodName)) ∈ lw_all := lw_g (lw_at lw_m0 82 rfl) rfl
theorem q83 : (Jvm.Cond.code ({ cls := "TrimCodes$Level", name := "end", desc := "(I)V" } : Jvm.MethodName) prog_2_method_4_code (4 : Nat) (Option.none : Option Jvm.ClassFile.FieldType)) ∈ lw_all := lw_g (lw_at lw_m0 83 rfl) rfl
theorem q84 : (Jvm.Cond.constantLong "TrimCodes$Level" (21 : Nat) (2305843009213693951 : Int64)) ∈ lw_all := lw_g (lw_at lw_m0 84 rfl) rfl
theorem q85 : (Jvm.Cond.methodLink "TrimCodes$Level" (23 : Nat) ({ cls := "TrimCodes$Level", name := "put", desc := "(IIJ)V" } : Jvm.MethodName)) ∈ lw_all := lw_g (lw_at lw_m0 85 rfl) rfl
theorem q86 : (Jvm.Cond.instanceMethod ({ cls := "TrimCodes$Level", name := "put", desc := "(IIJ)V" } : Jvm.MethodName)) ∈ lw_all := lw_g (lw_at lw_m0 86 rfl) rfl
theorem q87 : (Jvm.Cond.selects "TrimCodes$Level" ({ cls := "TrimCodes$Level", name := "put", desc := "(IIJ)V" } : Jvm.MethodName) ({ cls := "TrimCodes$Level", name := "put", desc := "(IIJ)V" } : Jvm.MethodName)) ∈ lw_all := lw_g (lw_at lw_m0 87 rfl) rfl
theorem q88 : (Jvm.Cond.code ({ cls := "TrimCodes$Level", name := "put", desc := "(IIJ)V" } : Jvm.MethodName) prog_2_method_3_code (5 : Nat) (Option.none : Option Jvm.ClassFile.FieldType)) ∈ lw_all := lw_g (lw_at lw_m0 88 rfl) rfl
theorem q90 : (Jvm.Cond.instanceMethod ({ cls := "TrimCodes$Level", name := "above", desc := "(LTrimCodes$Level;LTrimCodes$Sums;I)V" } : Jvm.MethodName)) ∈ lw_all := lw_g (lw_at lw_m0 90 rfl) rfl
theorem q91 : (Jvm.Cond.selects "TrimCodes$Level" ({ cls := "TrimCodes$Level", name := "above", desc := "(LTrimCodes$Level;LTrimCodes$Sums;I)V" } : Jvm.MethodName) ({ cls := "TrimCodes$Level", name := "above", desc := "(LTrimCodes$Level;LTrimCodes$Sums;I)V" } : Jvm.MethodName)) ∈ lw_all := lw_g (lw_at lw_m0 91 rfl) rfl
theorem q92 : (Jvm.Cond.code ({ cls := "TrimCodes$Level", name := "above", desc := "(LTrimCodes$Level;LTrimCodes$Sums;I)V" } : Jvm.MethodName) prog_2_method_5_code (6 : Nat) (Option.none : Option Jvm.ClassFile.FieldType)) ∈ lw_all := lw_g (lw_at lw_m0 92 rfl) rfl
theorem q93 : (Jvm.Cond.methodLink "TrimCodes$Level" (27 : Nat) ({ cls := "TrimCodes$Level", name := "best", desc := "(LTrimCodes$Level;LTrimCodes$Sums;II)J" } : Jvm.MethodName)) ∈ lw_all := lw_g (lw_at lw_m0 93 rfl) rfl
theorem q94 : (Jvm.Cond.static ({ cls := "TrimCodes$Level", name := "best", desc := "(LTrimCodes$Level;LTrimCodes$Sums;II)J" } : Jvm.MethodName)) ∈ lw_all := lw_g (lw_at lw_m0 94 rfl) rfl
theorem q95 : (Jvm.Cond.code ({ cls := "TrimCodes$Level", name := "best", desc := "(LTrimCodes$Level;LTrimCodes$Sums;II)J" } : Jvm.MethodName) prog_2_method_6_code (10 : Nat) (Option.some Jvm.ClassFile.FieldType.long)) ∈ lw_all := lw_g (lw_at lw_m0 95 rfl) rfl
theorem q96 : (Jvm.Cond.methodLink "TrimCodes$Level" (31 : Nat) ({ cls := "TrimCodes$Level", name := "get", desc := "(II)J" } : Jvm.MethodName)) ∈ lw_all := lw_g (lw_at lw_m0 96 rfl) rfl
theorem q97 : (Jvm.Cond.instanceMethod ({ cls := "TrimCodes$Level", name := "get", desc := "(II)J" } : Jvm.MethodName)) ∈ lw_all := lw_g (lw_at lw_m0 97 rfl) rfl
theorem q98 : (Jvm.Cond.selects "TrimCodes$Level" ({ cls := "TrimCodes$Level", name := "get", desc := "(II)J" } : Jvm.MethodName) ({ cls := "TrimCodes$Level", name := "get", desc := "(II)J" } : Jvm.MethodName)) ∈ lw_all := lw_g (lw_at lw_m0 98 rfl) rfl
theorem q99 : (Jvm.Cond.code ({ cls := "TrimCodes$Level", name := "get", desc := "(II)J" } : Jvm.MethodName) prog_2_method_2_code (3 : Nat) (Option.some Jvm.ClassFile.FieldType.long)) ∈ lw_all := lw_g (lw_at lw_m0 99 rfl) rfl
theorem q100 : (Jvm.Cond.methodLink "TrimCodes$Level" (15 : Nat) ({ cls := "java/lang/Math", name := "min", desc := "(II)I" } : Jvm.MethodName)) ∈ lw_all := lw_g (lw_at lw_m0 100 rfl) rfl
theorem q103 : (Jvm.Cond.methodLink "TrimCodes$Level" (35 : Nat) ({ cls := "TrimCodes$Sums", name := "least", desc := "(I)J" } : Jvm.MethodName)) ∈ lw_all := lw_g (lw_at lw_m0 103 rfl) rfl
theorem q107 : (Jvm.Cond.methodLink "TrimCodes$Level" (41 : Nat) ({ cls := "java/lang/Math", name := "min", desc := "(JJ)J" } : Jvm.MethodName)) ∈ lw_all := lw_g (lw_at lw_m0 107 rfl) rfl
theorem in_X2 : ∀ w ∈ wsX20, w ∈ lw_all := lw_in wsX20 [36] (by decide +kernel) (by decide +kernel)
end
section
/-! TrimCodes -/
set_option maxRecDepth 100000
def RX0 : String := "TrimCodes"
def TX0 : u_T := fun k => match k with
  | 0 => ("TrimCodes", "weight", "[I", true)
  | 1 => ("TrimCodes", "letters", "I", false)
  | 2 => ("TrimCodes", "limit", "I", false)
  | 3 => ("TrimCodes", "sums", "LTrimCodes$Sums;", true)
  | 4 => ("TrimCodes", "now", "LTrimCodes$Level;", false)
  | _ => ("TrimCodes", "next", "LTrimCodes$Level;", false)
def tyX0 : Nat → FieldType := fun k => match k with
  | 0 => .array .int
  | 1 => .int
  | 2 => .int
  | 3 => .object "TrimCodes$Sums"
  | 4 => .object "TrimCodes$Level"
  | _ => .object "TrimCodes$Level"
abbrev wsX00 : List Cond := u_ws RX0 TX0 6
theorem nmX0 : ∀ a, a < 6 → ∀ b, b < 6 → a ≠ b → (TX0 a).2.1 ≠ (TX0 b).2.1 := by decide +kernel
theorem tyX0_ok : ∀ k, k < 6 → parseFieldDescriptor (TX0 k).2.2.1 = some (tyX0 k) := by decide +kernel
abbrev cX0_init : ByteArray := prog_1_method_1_code
def yX0_init : MethodName := ⟨RX0, "<init>", "()V"⟩
theorem dX0_init_0 : decode cX0_init 0 = .ok (.aload_n 0, 1) := by decide +kernel
theorem dX0_init_1 : decode cX0_init 1 = .ok (.invokespecial 3, 3) := by decide +kernel
theorem dX0_init_4 : decode cX0_init 4 = .ok (.aload_n 0, 1) := by decide +kernel
theorem dX0_init_5 : decode cX0_init 5 = .ok (.bipush 32, 2) := by decide +kernel
theorem dX0_init_7 : decode cX0_init 7 = .ok (.newarray .int, 2) := by decide +kernel
theorem dX0_init_9 : decode cX0_init 9 = .ok (.putfield 11, 3) := by decide +kernel
theorem dX0_init_12 : decode cX0_init 12 = .ok (.aload_n 0, 1) := by decide +kernel
theorem dX0_init_13 : decode cX0_init 13 = .ok (.iconst 2, 1) := by decide +kernel
theorem dX0_init_14 : decode cX0_init 14 = .ok (.putfield 15, 3) := by decide +kernel
theorem dX0_init_17 : decode cX0_init 17 = .ok (.aload_n 0, 1) := by decide +kernel
theorem dX0_init_18 : decode cX0_init 18 = .ok (.iconst 5, 1) := by decide +kernel
theorem dX0_init_19 : decode cX0_init 19 = .ok (.putfield 19, 3) := by decide +kernel
theorem dX0_init_22 : decode cX0_init 22 = .ok (.aload_n 0, 1) := by decide +kernel
theorem dX0_init_23 : decode cX0_init 23 = .ok (.new 22, 3) := by decide +kernel
theorem dX0_init_26 : decode cX0_init 26 = .ok (.dup, 1) := by decide +kernel
theorem dX0_init_27 : decode cX0_init 27 = .ok (.invokespecial 24, 3) := by decide +kernel
theorem dX0_init_30 : decode cX0_init 30 = .ok (.putfield 25, 3) := by decide +kernel
theorem dX0_init_33 : decode cX0_init 33 = .ok (.aload_n 0, 1) := by decide +kernel
theorem dX0_init_34 : decode cX0_init 34 = .ok (.new 29, 3) := by decide +kernel
theorem dX0_init_37 : decode cX0_init 37 = .ok (.dup, 1) := by decide +kernel
theorem dX0_init_38 : decode cX0_init 38 = .ok (.invokespecial 31, 3) := by decide +kernel
theorem dX0_init_41 : decode cX0_init 41 = .ok (.putfield 32, 3) := by decide +kernel
theorem dX0_init_44 : decode cX0_init 44 = .ok (.aload_n 0, 1) := by decide +kernel
theorem dX0_init_45 : decode cX0_init 45 = .ok (.new 29, 3) := by decide +kernel
theorem dX0_init_48 : decode cX0_init 48 = .ok (.dup, 1) := by decide +kernel
theorem dX0_init_49 : decode cX0_init 49 = .ok (.invokespecial 31, 3) := by decide +kernel
theorem dX0_init_52 : decode cX0_init 52 = .ok (.putfield 36, 3) := by decide +kernel
theorem dX0_init_55 : decode cX0_init 55 = .ok (.return_, 1) := by decide +kernel
abbrev cX0_letters : ByteArray := prog_1_method_2_code
def yX0_letters : MethodName := ⟨RX0, "letters", "(I)V"⟩
theorem dX0_letters_0 : decode cX0_letters 0 = .ok (.aload_n 0, 1) := by decide +kernel
theorem dX0_letters_1 : decode cX0_letters 1 = .ok (.iconst 2, 1) := by decide +kernel
theorem dX0_letters_2 : decode cX0_letters 2 = .ok (.iload_n 1, 1) := by decide +kernel
theorem dX0_letters_3 : decode cX0_letters 3 = .ok (.ldc 41, 2) := by decide +kernel
theorem dX0_letters_5 : decode cX0_letters 5 = .ok (.iand, 1) := by decide +kernel
theorem dX0_letters_6 : decode cX0_letters 6 = .ok (.bipush 15, 2) := by decide +kernel
theorem dX0_letters_8 : decode cX0_letters 8 = .ok (.irem, 1) := by decide +kernel
theorem dX0_letters_9 : decode cX0_letters 9 = .ok (.iadd, 1) := by decide +kernel
theorem dX0_letters_10 : decode cX0_letters 10 = .ok (.putfield 15, 3) := by decide +kernel
theorem dX0_letters_13 : decode cX0_letters 13 = .ok (.return_, 1) := by decide +kernel
abbrev cX0_limit : ByteArray := prog_1_method_3_code
def yX0_limit : MethodName := ⟨RX0, "limit", "(I)V"⟩
theorem dX0_limit_0 : decode cX0_limit 0 = .ok (.aload_n 0, 1) := by decide +kernel
theorem dX0_limit_1 : decode cX0_limit 1 = .ok (.iload_n 1, 1) := by decide +kernel
theorem dX0_limit_2 : decode cX0_limit 2 = .ok (.ldc 41, 2) := by decide +kernel
theorem dX0_limit_4 : decode cX0_limit 4 = .ok (.iand, 1) := by decide +kernel
theorem dX0_limit_5 : decode cX0_limit 5 = .ok (.bipush 16, 2) := by decide +kernel
theorem dX0_limit_7 : decode cX0_limit 7 = .ok (.irem, 1) := by decide +kernel
theorem dX0_limit_8 : decode cX0_limit 8 = .ok (.putfield 19, 3) := by decide +kernel
theorem dX0_limit_11 : decode cX0_limit 11 = .ok (.return_, 1) := by decide +kernel
abbrev cX0_weight : ByteArray := prog_1_method_4_code
def yX0_weight : MethodName := ⟨RX0, "weight", "(IIIII)V"⟩
theorem dX0_weight_0 : decode cX0_weight 0 = .ok (.iload_n 1, 1) := by decide +kernel
theorem dX0_weight_1 : decode cX0_weight 1 = .ok (.bipush 31, 2) := by decide +kernel
theorem dX0_weight_3 : decode cX0_weight 3 = .ok (.iand, 1) := by decide +kernel
theorem dX0_weight_4 : decode cX0_weight 4 = .ok (.istore 6, 2) := by decide +kernel
theorem dX0_weight_6 : decode cX0_weight 6 = .ok (.aload_n 0, 1) := by decide +kernel
theorem dX0_weight_7 : decode cX0_weight 7 = .ok (.getfield 11, 3) := by decide +kernel
theorem dX0_weight_10 : decode cX0_weight 10 = .ok (.iload 6, 2) := by decide +kernel
theorem dX0_weight_12 : decode cX0_weight 12 = .ok (.iload_n 2, 1) := by decide +kernel
theorem dX0_weight_13 : decode cX0_weight 13 = .ok (.ldc 41, 2) := by decide +kernel
theorem dX0_weight_15 : decode cX0_weight 15 = .ok (.iand, 1) := by decide +kernel
theorem dX0_weight_16 : decode cX0_weight 16 = .ok (.iastore, 1) := by decide +kernel
theorem dX0_weight_17 : decode cX0_weight 17 = .ok (.aload_n 0, 1) := by decide +kernel
theorem dX0_weight_18 : decode cX0_weight 18 = .ok (.getfield 11, 3) := by decide +kernel
theorem dX0_weight_21 : decode cX0_weight 21 = .ok (.iload 6, 2) := by decide +kernel
theorem dX0_weight_23 : decode cX0_weight 23 = .ok (.iconst 1, 1) := by decide +kernel
theorem dX0_weight_24 : decode cX0_weight 24 = .ok (.iadd, 1) := by decide +kernel
theorem dX0_weight_25 : decode cX0_weight 25 = .ok (.bipush 31, 2) := by decide +kernel
theorem dX0_weight_27 : decode cX0_weight 27 = .ok (.iand, 1) := by decide +kernel
theorem dX0_weight_28 : decode cX0_weight 28 = .ok (.iload_n 3, 1) := by decide +kernel
theorem dX0_weight_29 : decode cX0_weight 29 = .ok (.ldc 41, 2) := by decide +kernel
theorem dX0_weight_31 : decode cX0_weight 31 = .ok (.iand, 1) := by decide +kernel
theorem dX0_weight_32 : decode cX0_weight 32 = .ok (.iastore, 1) := by decide +kernel
theorem dX0_weight_33 : decode cX0_weight 33 = .ok (.aload_n 0, 1) := by decide +kernel
theorem dX0_weight_34 : decode cX0_weight 34 = .ok (.getfield 11, 3) := by decide +kernel
theorem dX0_weight_37 : decode cX0_weight 37 = .ok (.iload 6, 2) := by decide +kernel
theorem dX0_weight_39 : decode cX0_weight 39 = .ok (.iconst 2, 1) := by decide +kernel
theorem dX0_weight_40 : decode cX0_weight 40 = .ok (.iadd, 1) := by decide +kernel
theorem dX0_weight_41 : decode cX0_weight 41 = .ok (.bipush 31, 2) := by decide +kernel
theorem dX0_weight_43 : decode cX0_weight 43 = .ok (.iand, 1) := by decide +kernel
theorem dX0_weight_44 : decode cX0_weight 44 = .ok (.iload 4, 2) := by decide +kernel
theorem dX0_weight_46 : decode cX0_weight 46 = .ok (.ldc 41, 2) := by decide +kernel
theorem dX0_weight_48 : decode cX0_weight 48 = .ok (.iand, 1) := by decide +kernel
theorem dX0_weight_49 : decode cX0_weight 49 = .ok (.iastore, 1) := by decide +kernel
theorem dX0_weight_50 : decode cX0_weight 50 = .ok (.aload_n 0, 1) := by decide +kernel
theorem dX0_weight_51 : decode cX0_weight 51 = .ok (.getfield 11, 3) := by decide +kernel
theorem dX0_weight_54 : decode cX0_weight 54 = .ok (.iload 6, 2) := by decide +kernel
theorem dX0_weight_56 : decode cX0_weight 56 = .ok (.iconst 3, 1) := by decide +kernel
theorem dX0_weight_57 : decode cX0_weight 57 = .ok (.iadd, 1) := by decide +kernel
theorem dX0_weight_58 : decode cX0_weight 58 = .ok (.bipush 31, 2) := by decide +kernel
theorem dX0_weight_60 : decode cX0_weight 60 = .ok (.iand, 1) := by decide +kernel
theorem dX0_weight_61 : decode cX0_weight 61 = .ok (.iload 5, 2) := by decide +kernel
theorem dX0_weight_63 : decode cX0_weight 63 = .ok (.ldc 41, 2) := by decide +kernel
theorem dX0_weight_65 : decode cX0_weight 65 = .ok (.iand, 1) := by decide +kernel
theorem dX0_weight_66 : decode cX0_weight 66 = .ok (.iastore, 1) := by decide +kernel
theorem dX0_weight_67 : decode cX0_weight 67 = .ok (.return_, 1) := by decide +kernel
abbrev cX0_least : ByteArray := prog_1_method_5_code
def yX0_least : MethodName := ⟨RX0, "least", "()J"⟩
theorem dX0_least_0 : decode cX0_least 0 = .ok (.aload_n 0, 1) := by decide +kernel
theorem dX0_least_1 : decode cX0_least 1 = .ok (.getfield 15, 3) := by decide +kernel
theorem dX0_least_4 : decode cX0_least 4 = .ok (.iconst 1, 1) := by decide +kernel
theorem dX0_least_5 : decode cX0_least 5 = .ok (.aload_n 0, 1) := by decide +kernel
theorem dX0_least_6 : decode cX0_least 6 = .ok (.getfield 19, 3) := by decide +kernel
theorem dX0_least_9 : decode cX0_least 9 = .ok (.ishl, 1) := by decide +kernel
theorem dX0_least_10 : decode cX0_least 10 = .ok (.if_icmp .le 7, 3) := by decide +kernel
theorem dX0_least_13 : decode cX0_least 13 = .ok (.ldc2_w 42, 3) := by decide +kernel
theorem dX0_least_16 : decode cX0_least 16 = .ok (.lreturn, 1) := by decide +kernel
theorem dX0_least_17 : decode cX0_least 17 = .ok (.aload_n 0, 1) := by decide +kernel
theorem dX0_least_18 : decode cX0_least 18 = .ok (.getfield 25, 3) := by decide +kernel
theorem dX0_least_21 : decode cX0_least 21 = .ok (.aload_n 0, 1) := by decide +kernel
theorem dX0_least_22 : decode cX0_least 22 = .ok (.getfield 11, 3) := by decide +kernel
theorem dX0_least_25 : decode cX0_least 25 = .ok (.aload_n 0, 1) := by decide +kernel
theorem dX0_least_26 : decode cX0_least 26 = .ok (.getfield 15, 3) := by decide +kernel
theorem dX0_least_29 : decode cX0_least 29 = .ok (.invokevirtual 44, 3) := by decide +kernel
theorem dX0_least_32 : decode cX0_least 32 = .ok (.aload_n 0, 1) := by decide +kernel
theorem dX0_least_33 : decode cX0_least 33 = .ok (.getfield 32, 3) := by decide +kernel
theorem dX0_least_36 : decode cX0_least 36 = .ok (.aload_n 0, 1) := by decide +kernel
theorem dX0_least_37 : decode cX0_least 37 = .ok (.getfield 15, 3) := by decide +kernel
theorem dX0_least_40 : decode cX0_least 40 = .ok (.invokevirtual 48, 3) := by decide +kernel
theorem dX0_least_43 : decode cX0_least 43 = .ok (.iconst 0, 1) := by decide +kernel
theorem dX0_least_44 : decode cX0_least 44 = .ok (.istore_n 1, 1) := by decide +kernel
theorem dX0_least_45 : decode cX0_least 45 = .ok (.iload_n 1, 1) := by decide +kernel
theorem dX0_least_46 : decode cX0_least 46 = .ok (.aload_n 0, 1) := by decide +kernel
theorem dX0_least_47 : decode cX0_least 47 = .ok (.getfield 19, 3) := by decide +kernel
theorem dX0_least_50 : decode cX0_least 50 = .ok (.if_icmp .ge 46, 3) := by decide +kernel
theorem dX0_least_53 : decode cX0_least 53 = .ok (.aload_n 0, 1) := by decide +kernel
theorem dX0_least_54 : decode cX0_least 54 = .ok (.getfield 36, 3) := by decide +kernel
theorem dX0_least_57 : decode cX0_least 57 = .ok (.aload_n 0, 1) := by decide +kernel
theorem dX0_least_58 : decode cX0_least 58 = .ok (.getfield 32, 3) := by decide +kernel
theorem dX0_least_61 : decode cX0_least 61 = .ok (.aload_n 0, 1) := by decide +kernel
theorem dX0_least_62 : decode cX0_least 62 = .ok (.getfield 25, 3) := by decide +kernel
theorem dX0_least_65 : decode cX0_least 65 = .ok (.aload_n 0, 1) := by decide +kernel
theorem dX0_least_66 : decode cX0_least 66 = .ok (.getfield 15, 3) := by decide +kernel
theorem dX0_least_69 : decode cX0_least 69 = .ok (.invokevirtual 52, 3) := by decide +kernel
theorem dX0_least_72 : decode cX0_least 72 = .ok (.aload_n 0, 1) := by decide +kernel
theorem dX0_least_73 : decode cX0_least 73 = .ok (.getfield 32, 3) := by decide +kernel
theorem dX0_least_76 : decode cX0_least 76 = .ok (.astore_n 2, 1) := by decide +kernel
theorem dX0_least_77 : decode cX0_least 77 = .ok (.aload_n 0, 1) := by decide +kernel
theorem dX0_least_78 : decode cX0_least 78 = .ok (.aload_n 0, 1) := by decide +kernel
theorem dX0_least_79 : decode cX0_least 79 = .ok (.getfield 36, 3) := by decide +kernel
theorem dX0_least_82 : decode cX0_least 82 = .ok (.putfield 32, 3) := by decide +kernel
theorem dX0_least_85 : decode cX0_least 85 = .ok (.aload_n 0, 1) := by decide +kernel
theorem dX0_least_86 : decode cX0_least 86 = .ok (.aload_n 2, 1) := by decide +kernel
theorem dX0_least_87 : decode cX0_least 87 = .ok (.putfield 36, 3) := by decide +kernel
theorem dX0_least_90 : decode cX0_least 90 = .ok (.iinc 1 1, 3) := by decide +kernel
theorem dX0_least_93 : decode cX0_least 93 = .ok (.goto (-48), 3) := by decide +kernel
theorem dX0_least_96 : decode cX0_least 96 = .ok (.aload_n 0, 1) := by decide +kernel
theorem dX0_least_97 : decode cX0_least 97 = .ok (.getfield 32, 3) := by decide +kernel
theorem dX0_least_100 : decode cX0_least 100 = .ok (.aload_n 0, 1) := by decide +kernel
theorem dX0_least_101 : decode cX0_least 101 = .ok (.getfield 15, 3) := by decide +kernel
theorem dX0_least_104 : decode cX0_least 104 = .ok (.iconst 1, 1) := by decide +kernel
theorem dX0_least_105 : decode cX0_least 105 = .ok (.invokevirtual 56, 3) := by decide +kernel
theorem dX0_least_108 : decode cX0_least 108 = .ok (.lreturn, 1) := by decide +kernel
theorem q1 : (Jvm.Cond.initialized "TrimCodes") ∈ lw_all := lw_g (lw_at lw_m0 1 rfl) rfl
theorem q7 : (Jvm.Cond.instantiable "TrimCodes" (6 : Nat)) ∈ lw_all := lw_g (lw_at lw_m0 7 rfl) rfl
theorem q9 : (Jvm.Cond.instanceMethod ({ cls := "TrimCodes", name := "<init>", desc := "()V" } : Jvm.MethodName)) ∈ lw_all := lw_g (lw_at lw_m0 9 rfl) rfl
theorem q10 : (Jvm.Cond.code ({ cls := "TrimCodes", name := "<init>", desc := "()V" } : Jvm.MethodName) prog_1_method_1_code (1 : Nat) (Option.none : Option Jvm.ClassFile.FieldType)) ∈ lw_all := lw_g (lw_at lw_m0 10 rfl) rfl
theorem q11 : (Jvm.Cond.methodLink "TrimCodes" (3 : Nat) ({ cls := "java/lang/Object", name := "<init>", desc := "()V" } : Jvm.MethodName)) ∈ lw_all := lw_g (lw_at lw_m0 11 rfl) rfl
theorem q14 : (Jvm.Cond.classLink "TrimCodes" (22 : Nat) "TrimCodes$Sums") ∈ lw_all := lw_g (lw_at lw_m0 14 rfl) rfl
theorem q16 : (Jvm.Cond.methodLinkNest "TrimCodes" (24 : Nat) ({ cls := "TrimCodes$Sums", name := "<init>", desc := "()V" } : Jvm.MethodName) "TrimCodes") ∈ lw_tbl := lw_at lw_m0 16 rfl
theorem q29 : (Jvm.Cond.classLink "TrimCodes" (29 : Nat) "TrimCodes$Level") ∈ lw_all := lw_g (lw_at lw_m0 29 rfl) rfl
theorem q31 : (Jvm.Cond.methodLinkNest "TrimCodes" (31 : Nat) ({ cls := "TrimCodes$Level", name := "<init>", desc := "()V" } : Jvm.MethodName) "TrimCodes") ∈ lw_tbl := lw_at lw_m0 31 rfl
theorem q39 : (Jvm.Cond.fieldLink "TrimCodes" (11 : Nat) "TrimCodes" "weight" "[I") ∈ lw_all := lw_g (lw_at lw_m0 39 rfl) rfl
theorem q40 : (Jvm.Cond.fieldLink "TrimCodes" (15 : Nat) "TrimCodes" "letters" "I") ∈ lw_all := lw_g (lw_at lw_m0 40 rfl) rfl
theorem q41 : (Jvm.Cond.fieldLink "TrimCodes" (19 : Nat) "TrimCodes" "limit" "I") ∈ lw_all := lw_g (lw_at lw_m0 41 rfl) rfl
theorem q42 : (Jvm.Cond.fieldLink "TrimCodes" (25 : Nat) "TrimCodes" "sums" "LTrimCodes$Sums;") ∈ lw_all := lw_g (lw_at lw_m0 42 rfl) rfl
theorem q43 : (Jvm.Cond.fieldLink "TrimCodes" (32 : Nat) "TrimCodes" "now" "LTrimCodes$Level;") ∈ lw_all := lw_g (lw_at lw_m0 43 rfl) rfl
theorem q44 : (Jvm.Cond.fieldLink "TrimCodes" (36 : Nat) "TrimCodes" "next" "LTrimCodes$Level;") ∈ lw_all := lw_g (lw_at lw_m0 44 rfl) rfl
theorem q45 : (Jvm.Cond.laysFinal "TrimCodes" "TrimCodes" "weight" "[I") ∈ lw_all := lw_g (lw_at lw_m0 45 rfl) rfl
theorem q46 : (Jvm.Cond.soleField "TrimCodes" "weight") ∈ lw_all := lw_g (lw_at lw_m0 46 rfl) rfl
theorem q47 : (Jvm.Cond.lays "TrimCodes" "TrimCodes" "letters" "I") ∈ lw_all := lw_g (lw_at lw_m0 47 rfl) rfl
theorem q48 : (Jvm.Cond.soleField "TrimCodes" "letters") ∈ lw_all := lw_g (lw_at lw_m0 48 rfl) rfl
theorem q49 : (Jvm.Cond.lays "TrimCodes" "TrimCodes" "limit" "I") ∈ lw_all := lw_g (lw_at lw_m0 49 rfl) rfl
theorem q50 : (Jvm.Cond.soleField "TrimCodes" "limit") ∈ lw_all := lw_g (lw_at lw_m0 50 rfl) rfl
theorem q51 : (Jvm.Cond.laysFinal "TrimCodes" "TrimCodes" "sums" "LTrimCodes$Sums;") ∈ lw_all := lw_g (lw_at lw_m0 51 rfl) rfl
theorem q52 : (Jvm.Cond.soleField "TrimCodes" "sums") ∈ lw_all := lw_g (lw_at lw_m0 52 rfl) rfl
theorem q53 : (Jvm.Cond.lays "TrimCodes" "TrimCodes" "now" "LTrimCodes$Level;") ∈ lw_all := lw_g (lw_at lw_m0 53 rfl) rfl
theorem q54 : (Jvm.Cond.soleField "TrimCodes" "now") ∈ lw_all := lw_g (lw_at lw_m0 54 rfl) rfl
theorem q55 : (Jvm.Cond.lays "TrimCodes" "TrimCodes" "next" "LTrimCodes$Level;") ∈ lw_all := lw_g (lw_at lw_m0 55 rfl) rfl
theorem q56 : (Jvm.Cond.soleField "TrimCodes" "next") ∈ lw_all := lw_g (lw_at lw_m0 56 rfl) rfl
theorem q57 : (Jvm.Cond.superclass "TrimCodes" "java/lang/Object") ∈ lw_all := lw_g (lw_at lw_m0 57 rfl) rfl
theorem q59 : (Jvm.Cond.instanceMethod ({ cls := "TrimCodes", name := "letters", desc := "(I)V" } : Jvm.MethodName)) ∈ lw_all := lw_g (lw_at lw_m0 59 rfl) rfl
theorem q60 : (Jvm.Cond.selects "TrimCodes" ({ cls := "TrimCodes", name := "letters", desc := "(I)V" } : Jvm.MethodName) ({ cls := "TrimCodes", name := "letters", desc := "(I)V" } : Jvm.MethodName)) ∈ lw_all := lw_g (lw_at lw_m0 60 rfl) rfl
theorem q61 : (Jvm.Cond.code ({ cls := "TrimCodes", name := "letters", desc := "(I)V" } : Jvm.MethodName) prog_1_method_2_code (2 : Nat) (Option.none : Option Jvm.ClassFile.FieldType)) ∈ lw_all := lw_g (lw_at lw_m0 61 rfl) rfl
theorem q62 : (Jvm.Cond.constant "TrimCodes" (41 : Nat) (2147483647 : Int32)) ∈ lw_all := lw_g (lw_at lw_m0 62 rfl) rfl
theorem q64 : (Jvm.Cond.instanceMethod ({ cls := "TrimCodes", name := "limit", desc := "(I)V" } : Jvm.MethodName)) ∈ lw_all := lw_g (lw_at lw_m0 64 rfl) rfl
theorem q65 : (Jvm.Cond.selects "TrimCodes" ({ cls := "TrimCodes", name := "limit", desc := "(I)V" } : Jvm.MethodName) ({ cls := "TrimCodes", name := "limit", desc := "(I)V" } : Jvm.MethodName)) ∈ lw_all := lw_g (lw_at lw_m0 65 rfl) rfl
theorem q66 : (Jvm.Cond.code ({ cls := "TrimCodes", name := "limit", desc := "(I)V" } : Jvm.MethodName) prog_1_method_3_code (2 : Nat) (Option.none : Option Jvm.ClassFile.FieldType)) ∈ lw_all := lw_g (lw_at lw_m0 66 rfl) rfl
theorem q68 : (Jvm.Cond.instanceMethod ({ cls := "TrimCodes", name := "weight", desc := "(IIIII)V" } : Jvm.MethodName)) ∈ lw_all := lw_g (lw_at lw_m0 68 rfl) rfl
theorem q69 : (Jvm.Cond.selects "TrimCodes" ({ cls := "TrimCodes", name := "weight", desc := "(IIIII)V" } : Jvm.MethodName) ({ cls := "TrimCodes", name := "weight", desc := "(IIIII)V" } : Jvm.MethodName)) ∈ lw_all := lw_g (lw_at lw_m0 69 rfl) rfl
theorem q70 : (Jvm.Cond.code ({ cls := "TrimCodes", name := "weight", desc := "(IIIII)V" } : Jvm.MethodName) prog_1_method_4_code (7 : Nat) (Option.none : Option Jvm.ClassFile.FieldType)) ∈ lw_all := lw_g (lw_at lw_m0 70 rfl) rfl
theorem q72 : (Jvm.Cond.instanceMethod ({ cls := "TrimCodes", name := "least", desc := "()J" } : Jvm.MethodName)) ∈ lw_all := lw_g (lw_at lw_m0 72 rfl) rfl
theorem q73 : (Jvm.Cond.selects "TrimCodes" ({ cls := "TrimCodes", name := "least", desc := "()J" } : Jvm.MethodName) ({ cls := "TrimCodes", name := "least", desc := "()J" } : Jvm.MethodName)) ∈ lw_all := lw_g (lw_at lw_m0 73 rfl) rfl
theorem q74 : (Jvm.Cond.code ({ cls := "TrimCodes", name := "least", desc := "()J" } : Jvm.MethodName) prog_1_method_5_code (3 : Nat) (Option.some Jvm.ClassFile.FieldType.long)) ∈ lw_all := lw_g (lw_at lw_m0 74 rfl) rfl
theorem q75 : (Jvm.Cond.constantLong "TrimCodes" (42 : Nat) (-1 : Int64)) ∈ lw_all := lw_g (lw_at lw_m0 75 rfl) rfl
theorem q76 : (Jvm.Cond.methodLink "TrimCodes" (44 : Nat) ({ cls := "TrimCodes$Sums", name := "of", desc := "([II)V" } : Jvm.MethodName)) ∈ lw_all := lw_g (lw_at lw_m0 76 rfl) rfl
theorem q80 : (Jvm.Cond.methodLink "TrimCodes" (48 : Nat) ({ cls := "TrimCodes$Level", name := "end", desc := "(I)V" } : Jvm.MethodName)) ∈ lw_all := lw_g (lw_at lw_m0 80 rfl) rfl
theorem q89 : (Jvm.Cond.methodLink "TrimCodes" (52 : Nat) ({ cls := "TrimCodes$Level", name := "above", desc := "(LTrimCodes$Level;LTrimCodes$Sums;I)V" } : Jvm.MethodName)) ∈ lw_all := lw_g (lw_at lw_m0 89 rfl) rfl
theorem q110 : (Jvm.Cond.methodLink "TrimCodes" (56 : Nat) ({ cls := "TrimCodes$Level", name := "get", desc := "(II)J" } : Jvm.MethodName)) ∈ lw_all := lw_g (lw_at lw_m0 110 rfl) rfl
theorem in_X0 : ∀ w ∈ wsX00, w ∈ lw_all := lw_in wsX00 [45, 47, 49, 51, 53, 55] (by decide +kernel) (by decide +kernel)
/-! the law's own entry -/
set_option maxRecDepth 100000
abbrev cL_law : ByteArray := code
theorem dL_law_0 : decode cL_law 0 = .ok (.new 7, 3) := by decide +kernel
theorem dL_law_3 : decode cL_law 3 = .ok (.dup, 1) := by decide +kernel
theorem dL_law_4 : decode cL_law 4 = .ok (.invokespecial 9, 3) := by decide +kernel
theorem dL_law_7 : decode cL_law 7 = .ok (.astore_n 1, 1) := by decide +kernel
theorem dL_law_8 : decode cL_law 8 = .ok (.new 10, 3) := by decide +kernel
theorem dL_law_11 : decode cL_law 11 = .ok (.dup, 1) := by decide +kernel
theorem dL_law_12 : decode cL_law 12 = .ok (.invokespecial 12, 3) := by decide +kernel
theorem dL_law_15 : decode cL_law 15 = .ok (.astore_n 2, 1) := by decide +kernel
theorem dL_law_16 : decode cL_law 16 = .ok (.iconst 0, 1) := by decide +kernel
theorem dL_law_17 : decode cL_law 17 = .ok (.istore_n 3, 1) := by decide +kernel
theorem dL_law_18 : decode cL_law 18 = .ok (.iload_n 3, 1) := by decide +kernel
theorem dL_law_19 : decode cL_law 19 = .ok (.aload_n 0, 1) := by decide +kernel
theorem dL_law_20 : decode cL_law 20 = .ok (.arraylength, 1) := by decide +kernel
theorem dL_law_21 : decode cL_law 21 = .ok (.bipush 6, 2) := by decide +kernel
theorem dL_law_23 : decode cL_law 23 = .ok (.isub, 1) := by decide +kernel
theorem dL_law_24 : decode cL_law 24 = .ok (.if_icmp .gt 163, 3) := by decide +kernel
theorem dL_law_27 : decode cL_law 27 = .ok (.aload_n 0, 1) := by decide +kernel
theorem dL_law_28 : decode cL_law 28 = .ok (.iload_n 3, 1) := by decide +kernel
theorem dL_law_29 : decode cL_law 29 = .ok (.iaload, 1) := by decide +kernel
theorem dL_law_30 : decode cL_law 30 = .ok (.iconst 3, 1) := by decide +kernel
theorem dL_law_31 : decode cL_law 31 = .ok (.iand, 1) := by decide +kernel
theorem dL_law_32 : decode cL_law 32 = .ok (.tableswitch 149 0 3 #[32, 53, 74, 135], 32) := by decide +kernel
theorem dL_law_64 : decode cL_law 64 = .ok (.aload_n 1, 1) := by decide +kernel
theorem dL_law_65 : decode cL_law 65 = .ok (.aload_n 0, 1) := by decide +kernel
theorem dL_law_66 : decode cL_law 66 = .ok (.iload_n 3, 1) := by decide +kernel
theorem dL_law_67 : decode cL_law 67 = .ok (.iconst 1, 1) := by decide +kernel
theorem dL_law_68 : decode cL_law 68 = .ok (.iadd, 1) := by decide +kernel
theorem dL_law_69 : decode cL_law 69 = .ok (.iaload, 1) := by decide +kernel
theorem dL_law_70 : decode cL_law 70 = .ok (.invokevirtual 13, 3) := by decide +kernel
theorem dL_law_73 : decode cL_law 73 = .ok (.aload_n 2, 1) := by decide +kernel
theorem dL_law_74 : decode cL_law 74 = .ok (.aload_n 0, 1) := by decide +kernel
theorem dL_law_75 : decode cL_law 75 = .ok (.iload_n 3, 1) := by decide +kernel
theorem dL_law_76 : decode cL_law 76 = .ok (.iconst 1, 1) := by decide +kernel
theorem dL_law_77 : decode cL_law 77 = .ok (.iadd, 1) := by decide +kernel
theorem dL_law_78 : decode cL_law 78 = .ok (.iaload, 1) := by decide +kernel
theorem dL_law_79 : decode cL_law 79 = .ok (.invokevirtual 17, 3) := by decide +kernel
theorem dL_law_82 : decode cL_law 82 = .ok (.goto 99, 3) := by decide +kernel
theorem dL_law_85 : decode cL_law 85 = .ok (.aload_n 1, 1) := by decide +kernel
theorem dL_law_86 : decode cL_law 86 = .ok (.aload_n 0, 1) := by decide +kernel
theorem dL_law_87 : decode cL_law 87 = .ok (.iload_n 3, 1) := by decide +kernel
theorem dL_law_88 : decode cL_law 88 = .ok (.iconst 1, 1) := by decide +kernel
theorem dL_law_89 : decode cL_law 89 = .ok (.iadd, 1) := by decide +kernel
theorem dL_law_90 : decode cL_law 90 = .ok (.iaload, 1) := by decide +kernel
theorem dL_law_91 : decode cL_law 91 = .ok (.invokevirtual 18, 3) := by decide +kernel
theorem dL_law_94 : decode cL_law 94 = .ok (.aload_n 2, 1) := by decide +kernel
theorem dL_law_95 : decode cL_law 95 = .ok (.aload_n 0, 1) := by decide +kernel
theorem dL_law_96 : decode cL_law 96 = .ok (.iload_n 3, 1) := by decide +kernel
theorem dL_law_97 : decode cL_law 97 = .ok (.iconst 1, 1) := by decide +kernel
theorem dL_law_98 : decode cL_law 98 = .ok (.iadd, 1) := by decide +kernel
theorem dL_law_99 : decode cL_law 99 = .ok (.iaload, 1) := by decide +kernel
theorem dL_law_100 : decode cL_law 100 = .ok (.invokevirtual 21, 3) := by decide +kernel
theorem dL_law_103 : decode cL_law 103 = .ok (.goto 78, 3) := by decide +kernel
theorem dL_law_106 : decode cL_law 106 = .ok (.aload_n 1, 1) := by decide +kernel
theorem dL_law_107 : decode cL_law 107 = .ok (.aload_n 0, 1) := by decide +kernel
theorem dL_law_108 : decode cL_law 108 = .ok (.iload_n 3, 1) := by decide +kernel
theorem dL_law_109 : decode cL_law 109 = .ok (.iconst 1, 1) := by decide +kernel
theorem dL_law_110 : decode cL_law 110 = .ok (.iadd, 1) := by decide +kernel
theorem dL_law_111 : decode cL_law 111 = .ok (.iaload, 1) := by decide +kernel
theorem dL_law_112 : decode cL_law 112 = .ok (.aload_n 0, 1) := by decide +kernel
theorem dL_law_113 : decode cL_law 113 = .ok (.iload_n 3, 1) := by decide +kernel
theorem dL_law_114 : decode cL_law 114 = .ok (.iconst 2, 1) := by decide +kernel
theorem dL_law_115 : decode cL_law 115 = .ok (.iadd, 1) := by decide +kernel
theorem dL_law_116 : decode cL_law 116 = .ok (.iaload, 1) := by decide +kernel
theorem dL_law_117 : decode cL_law 117 = .ok (.aload_n 0, 1) := by decide +kernel
theorem dL_law_118 : decode cL_law 118 = .ok (.iload_n 3, 1) := by decide +kernel
theorem dL_law_119 : decode cL_law 119 = .ok (.iconst 3, 1) := by decide +kernel
theorem dL_law_120 : decode cL_law 120 = .ok (.iadd, 1) := by decide +kernel
theorem dL_law_121 : decode cL_law 121 = .ok (.iaload, 1) := by decide +kernel
theorem dL_law_122 : decode cL_law 122 = .ok (.aload_n 0, 1) := by decide +kernel
theorem dL_law_123 : decode cL_law 123 = .ok (.iload_n 3, 1) := by decide +kernel
theorem dL_law_124 : decode cL_law 124 = .ok (.iconst 4, 1) := by decide +kernel
theorem dL_law_125 : decode cL_law 125 = .ok (.iadd, 1) := by decide +kernel
theorem dL_law_126 : decode cL_law 126 = .ok (.iaload, 1) := by decide +kernel
theorem dL_law_127 : decode cL_law 127 = .ok (.aload_n 0, 1) := by decide +kernel
theorem dL_law_128 : decode cL_law 128 = .ok (.iload_n 3, 1) := by decide +kernel
theorem dL_law_129 : decode cL_law 129 = .ok (.iconst 5, 1) := by decide +kernel
theorem dL_law_130 : decode cL_law 130 = .ok (.iadd, 1) := by decide +kernel
theorem dL_law_131 : decode cL_law 131 = .ok (.iaload, 1) := by decide +kernel
theorem dL_law_132 : decode cL_law 132 = .ok (.invokevirtual 22, 3) := by decide +kernel
theorem dL_law_135 : decode cL_law 135 = .ok (.aload_n 2, 1) := by decide +kernel
theorem dL_law_136 : decode cL_law 136 = .ok (.aload_n 0, 1) := by decide +kernel
theorem dL_law_137 : decode cL_law 137 = .ok (.iload_n 3, 1) := by decide +kernel
theorem dL_law_138 : decode cL_law 138 = .ok (.iconst 1, 1) := by decide +kernel
theorem dL_law_139 : decode cL_law 139 = .ok (.iadd, 1) := by decide +kernel
theorem dL_law_140 : decode cL_law 140 = .ok (.iaload, 1) := by decide +kernel
theorem dL_law_141 : decode cL_law 141 = .ok (.aload_n 0, 1) := by decide +kernel
theorem dL_law_142 : decode cL_law 142 = .ok (.iload_n 3, 1) := by decide +kernel
theorem dL_law_143 : decode cL_law 143 = .ok (.iconst 2, 1) := by decide +kernel
theorem dL_law_144 : decode cL_law 144 = .ok (.iadd, 1) := by decide +kernel
theorem dL_law_145 : decode cL_law 145 = .ok (.iaload, 1) := by decide +kernel
theorem dL_law_146 : decode cL_law 146 = .ok (.aload_n 0, 1) := by decide +kernel
theorem dL_law_147 : decode cL_law 147 = .ok (.iload_n 3, 1) := by decide +kernel
theorem dL_law_148 : decode cL_law 148 = .ok (.iconst 3, 1) := by decide +kernel
theorem dL_law_149 : decode cL_law 149 = .ok (.iadd, 1) := by decide +kernel
theorem dL_law_150 : decode cL_law 150 = .ok (.iaload, 1) := by decide +kernel
theorem dL_law_151 : decode cL_law 151 = .ok (.aload_n 0, 1) := by decide +kernel
theorem dL_law_152 : decode cL_law 152 = .ok (.iload_n 3, 1) := by decide +kernel
theorem dL_law_153 : decode cL_law 153 = .ok (.iconst 4, 1) := by decide +kernel
theorem dL_law_154 : decode cL_law 154 = .ok (.iadd, 1) := by decide +kernel
theorem dL_law_155 : decode cL_law 155 = .ok (.iaload, 1) := by decide +kernel
theorem dL_law_156 : decode cL_law 156 = .ok (.aload_n 0, 1) := by decide +kernel
theorem dL_law_157 : decode cL_law 157 = .ok (.iload_n 3, 1) := by decide +kernel
theorem dL_law_158 : decode cL_law 158 = .ok (.iconst 5, 1) := by decide +kernel
theorem dL_law_159 : decode cL_law 159 = .ok (.iadd, 1) := by decide +kernel
theorem dL_law_160 : decode cL_law 160 = .ok (.iaload, 1) := by decide +kernel
theorem dL_law_161 : decode cL_law 161 = .ok (.invokevirtual 26, 3) := by decide +kernel
theorem dL_law_164 : decode cL_law 164 = .ok (.goto 17, 3) := by decide +kernel
theorem dL_law_167 : decode cL_law 167 = .ok (.aload_n 1, 1) := by decide +kernel
theorem dL_law_168 : decode cL_law 168 = .ok (.invokevirtual 27, 3) := by decide +kernel
theorem dL_law_171 : decode cL_law 171 = .ok (.aload_n 2, 1) := by decide +kernel
theorem dL_law_172 : decode cL_law 172 = .ok (.invokevirtual 31, 3) := by decide +kernel
theorem dL_law_175 : decode cL_law 175 = .ok (.lcmp, 1) := by decide +kernel
theorem dL_law_176 : decode cL_law 176 = .ok (.ifCond .eq 5, 3) := by decide +kernel
theorem dL_law_179 : decode cL_law 179 = .ok (.iconst 0, 1) := by decide +kernel
theorem dL_law_180 : decode cL_law 180 = .ok (.ireturn, 1) := by decide +kernel
theorem dL_law_181 : decode cL_law 181 = .ok (.iinc 3 6, 3) := by decide +kernel
theorem dL_law_184 : decode cL_law 184 = .ok (.goto (-166), 3) := by decide +kernel
theorem dL_law_187 : decode cL_law 187 = .ok (.iconst 1, 1) := by decide +kernel
theorem dL_law_188 : decode cL_law 188 = .ok (.ireturn, 1) := by decide +kernel
end
section
/-! TrimCodesModel -/
set_option maxRecDepth 100000
def RX3 : String := "TrimCodesModel"
def TX3 : u_T := fun k => match k with
  | 0 => ("TrimCodesModel", "weight", "[I", true)
  | 1 => ("TrimCodesModel", "n", "I", false)
  | 2 => ("TrimCodesModel", "limit", "I", false)
  | 3 => ("TrimCodesModel", "best", "[J", true)
  | 4 => ("TrimCodesModel", "next", "[J", true)
  | _ => ("TrimCodesModel", "order", "[I", true)
def tyX3 : Nat → FieldType := fun k => match k with
  | 0 => .array .int
  | 1 => .int
  | 2 => .int
  | 3 => .array .long
  | 4 => .array .long
  | _ => .array .int
abbrev wsX30 : List Cond := u_ws RX3 TX3 6
theorem nmX3 : ∀ a, a < 6 → ∀ b, b < 6 → a ≠ b → (TX3 a).2.1 ≠ (TX3 b).2.1 := by decide +kernel
theorem tyX3_ok : ∀ k, k < 6 → parseFieldDescriptor (TX3 k).2.2.1 = some (tyX3 k) := by decide +kernel
abbrev cX3_init : ByteArray := prog_5_method_1_code
def yX3_init : MethodName := ⟨RX3, "<init>", "()V"⟩
theorem dX3_init_0 : decode cX3_init 0 = .ok (.aload_n 0, 1) := by decide +kernel
theorem dX3_init_1 : decode cX3_init 1 = .ok (.invokespecial 1, 3) := by decide +kernel
theorem dX3_init_4 : decode cX3_init 4 = .ok (.aload_n 0, 1) := by decide +kernel
theorem dX3_init_5 : decode cX3_init 5 = .ok (.bipush 32, 2) := by decide +kernel
theorem dX3_init_7 : decode cX3_init 7 = .ok (.newarray .int, 2) := by decide +kernel
theorem dX3_init_9 : decode cX3_init 9 = .ok (.putfield 7, 3) := by decide +kernel
theorem dX3_init_12 : decode cX3_init 12 = .ok (.aload_n 0, 1) := by decide +kernel
theorem dX3_init_13 : decode cX3_init 13 = .ok (.iconst 2, 1) := by decide +kernel
theorem dX3_init_14 : decode cX3_init 14 = .ok (.putfield 13, 3) := by decide +kernel
theorem dX3_init_17 : decode cX3_init 17 = .ok (.aload_n 0, 1) := by decide +kernel
theorem dX3_init_18 : decode cX3_init 18 = .ok (.iconst 5, 1) := by decide +kernel
theorem dX3_init_19 : decode cX3_init 19 = .ok (.putfield 17, 3) := by decide +kernel
theorem dX3_init_22 : decode cX3_init 22 = .ok (.aload_n 0, 1) := by decide +kernel
theorem dX3_init_23 : decode cX3_init 23 = .ok (.sipush 289, 3) := by decide +kernel
theorem dX3_init_26 : decode cX3_init 26 = .ok (.newarray .long, 2) := by decide +kernel
theorem dX3_init_28 : decode cX3_init 28 = .ok (.putfield 20, 3) := by decide +kernel
theorem dX3_init_31 : decode cX3_init 31 = .ok (.aload_n 0, 1) := by decide +kernel
theorem dX3_init_32 : decode cX3_init 32 = .ok (.sipush 289, 3) := by decide +kernel
theorem dX3_init_35 : decode cX3_init 35 = .ok (.newarray .long, 2) := by decide +kernel
theorem dX3_init_37 : decode cX3_init 37 = .ok (.putfield 24, 3) := by decide +kernel
theorem dX3_init_40 : decode cX3_init 40 = .ok (.aload_n 0, 1) := by decide +kernel
theorem dX3_init_41 : decode cX3_init 41 = .ok (.bipush 32, 2) := by decide +kernel
theorem dX3_init_43 : decode cX3_init 43 = .ok (.newarray .int, 2) := by decide +kernel
theorem dX3_init_45 : decode cX3_init 45 = .ok (.putfield 27, 3) := by decide +kernel
theorem dX3_init_48 : decode cX3_init 48 = .ok (.return_, 1) := by decide +kernel
abbrev cX3_letters : ByteArray := prog_5_method_2_code
def yX3_letters : MethodName := ⟨RX3, "letters", "(I)V"⟩
theorem dX3_letters_0 : decode cX3_letters 0 = .ok (.aload_n 0, 1) := by decide +kernel
theorem dX3_letters_1 : decode cX3_letters 1 = .ok (.iconst 2, 1) := by decide +kernel
theorem dX3_letters_2 : decode cX3_letters 2 = .ok (.iload_n 1, 1) := by decide +kernel
theorem dX3_letters_3 : decode cX3_letters 3 = .ok (.ldc 30, 2) := by decide +kernel
theorem dX3_letters_5 : decode cX3_letters 5 = .ok (.iand, 1) := by decide +kernel
theorem dX3_letters_6 : decode cX3_letters 6 = .ok (.bipush 15, 2) := by decide +kernel
theorem dX3_letters_8 : decode cX3_letters 8 = .ok (.irem, 1) := by decide +kernel
theorem dX3_letters_9 : decode cX3_letters 9 = .ok (.iadd, 1) := by decide +kernel
theorem dX3_letters_10 : decode cX3_letters 10 = .ok (.putfield 13, 3) := by decide +kernel
theorem dX3_letters_13 : decode cX3_letters 13 = .ok (.return_, 1) := by decide +kernel
abbrev cX3_limit : ByteArray := prog_5_method_3_code
def yX3_limit : MethodName := ⟨RX3, "limit", "(I)V"⟩
theorem dX3_limit_0 : decode cX3_limit 0 = .ok (.aload_n 0, 1) := by decide +kernel
theorem dX3_limit_1 : decode cX3_limit 1 = .ok (.iload_n 1, 1) := by decide +kernel
theorem dX3_limit_2 : decode cX3_limit 2 = .ok (.ldc 30, 2) := by decide +kernel
theorem dX3_limit_4 : decode cX3_limit 4 = .ok (.iand, 1) := by decide +kernel
theorem dX3_limit_5 : decode cX3_limit 5 = .ok (.bipush 16, 2) := by decide +kernel
theorem dX3_limit_7 : decode cX3_limit 7 = .ok (.irem, 1) := by decide +kernel
theorem dX3_limit_8 : decode cX3_limit 8 = .ok (.putfield 17, 3) := by decide +kernel
theorem dX3_limit_11 : decode cX3_limit 11 = .ok (.return_, 1) := by decide +kernel
abbrev cX3_weight : ByteArray := prog_5_method_4_code
def yX3_weight : MethodName := ⟨RX3, "weight", "(IIIII)V"⟩
theorem dX3_weight_0 : decode cX3_weight 0 = .ok (.iconst 0, 1) := by decide +kernel
theorem dX3_weight_1 : decode cX3_weight 1 = .ok (.istore 6, 2) := by decide +kernel
theorem dX3_weight_3 : decode cX3_weight 3 = .ok (.iload 6, 2) := by decide +kernel
theorem dX3_weight_5 : decode cX3_weight 5 = .ok (.iconst 4, 1) := by decide +kernel
theorem dX3_weight_6 : decode cX3_weight 6 = .ok (.if_icmp .ge 56, 3) := by decide +kernel
theorem dX3_weight_9 : decode cX3_weight 9 = .ok (.aload_n 0, 1) := by decide +kernel
theorem dX3_weight_10 : decode cX3_weight 10 = .ok (.getfield 7, 3) := by decide +kernel
theorem dX3_weight_13 : decode cX3_weight 13 = .ok (.iload_n 1, 1) := by decide +kernel
theorem dX3_weight_14 : decode cX3_weight 14 = .ok (.iload 6, 2) := by decide +kernel
theorem dX3_weight_16 : decode cX3_weight 16 = .ok (.iadd, 1) := by decide +kernel
theorem dX3_weight_17 : decode cX3_weight 17 = .ok (.bipush 31, 2) := by decide +kernel
theorem dX3_weight_19 : decode cX3_weight 19 = .ok (.iand, 1) := by decide +kernel
theorem dX3_weight_20 : decode cX3_weight 20 = .ok (.iload 6, 2) := by decide +kernel
theorem dX3_weight_22 : decode cX3_weight 22 = .ok (.ifCond .ne 7, 3) := by decide +kernel
theorem dX3_weight_25 : decode cX3_weight 25 = .ok (.iload_n 2, 1) := by decide +kernel
theorem dX3_weight_26 : decode cX3_weight 26 = .ok (.goto 26, 3) := by decide +kernel
theorem dX3_weight_29 : decode cX3_weight 29 = .ok (.iload 6, 2) := by decide +kernel
theorem dX3_weight_31 : decode cX3_weight 31 = .ok (.iconst 1, 1) := by decide +kernel
theorem dX3_weight_32 : decode cX3_weight 32 = .ok (.if_icmp .ne 7, 3) := by decide +kernel
theorem dX3_weight_35 : decode cX3_weight 35 = .ok (.iload_n 3, 1) := by decide +kernel
theorem dX3_weight_36 : decode cX3_weight 36 = .ok (.goto 16, 3) := by decide +kernel
theorem dX3_weight_39 : decode cX3_weight 39 = .ok (.iload 6, 2) := by decide +kernel
theorem dX3_weight_41 : decode cX3_weight 41 = .ok (.iconst 2, 1) := by decide +kernel
theorem dX3_weight_42 : decode cX3_weight 42 = .ok (.if_icmp .ne 8, 3) := by decide +kernel
theorem dX3_weight_45 : decode cX3_weight 45 = .ok (.iload 4, 2) := by decide +kernel
theorem dX3_weight_47 : decode cX3_weight 47 = .ok (.goto 5, 3) := by decide +kernel
theorem dX3_weight_50 : decode cX3_weight 50 = .ok (.iload 5, 2) := by decide +kernel
theorem dX3_weight_52 : decode cX3_weight 52 = .ok (.ldc 30, 2) := by decide +kernel
theorem dX3_weight_54 : decode cX3_weight 54 = .ok (.iand, 1) := by decide +kernel
theorem dX3_weight_55 : decode cX3_weight 55 = .ok (.iastore, 1) := by decide +kernel
theorem dX3_weight_56 : decode cX3_weight 56 = .ok (.iinc 6 1, 3) := by decide +kernel
theorem dX3_weight_59 : decode cX3_weight 59 = .ok (.goto (-56), 3) := by decide +kernel
theorem dX3_weight_62 : decode cX3_weight 62 = .ok (.return_, 1) := by decide +kernel
abbrev cX3_least : ByteArray := prog_5_method_5_code
def yX3_least : MethodName := ⟨RX3, "least", "()J"⟩
theorem dX3_least_0 : decode cX3_least 0 = .ok (.iconst 1, 1) := by decide +kernel
theorem dX3_least_1 : decode cX3_least 1 = .ok (.aload_n 0, 1) := by decide +kernel
theorem dX3_least_2 : decode cX3_least 2 = .ok (.getfield 17, 3) := by decide +kernel
theorem dX3_least_5 : decode cX3_least 5 = .ok (.ishl, 1) := by decide +kernel
theorem dX3_least_6 : decode cX3_least 6 = .ok (.aload_n 0, 1) := by decide +kernel
theorem dX3_least_7 : decode cX3_least 7 = .ok (.getfield 13, 3) := by decide +kernel
theorem dX3_least_10 : decode cX3_least 10 = .ok (.if_icmp .ge 7, 3) := by decide +kernel
theorem dX3_least_13 : decode cX3_least 13 = .ok (.ldc2_w 31, 3) := by decide +kernel
theorem dX3_least_16 : decode cX3_least 16 = .ok (.lreturn, 1) := by decide +kernel
theorem dX3_least_17 : decode cX3_least 17 = .ok (.iconst 0, 1) := by decide +kernel
theorem dX3_least_18 : decode cX3_least 18 = .ok (.istore_n 1, 1) := by decide +kernel
theorem dX3_least_19 : decode cX3_least 19 = .ok (.iload_n 1, 1) := by decide +kernel
theorem dX3_least_20 : decode cX3_least 20 = .ok (.aload_n 0, 1) := by decide +kernel
theorem dX3_least_21 : decode cX3_least 21 = .ok (.getfield 13, 3) := by decide +kernel
theorem dX3_least_24 : decode cX3_least 24 = .ok (.if_icmp .ge 65, 3) := by decide +kernel
theorem dX3_least_27 : decode cX3_least 27 = .ok (.iload_n 1, 1) := by decide +kernel
theorem dX3_least_28 : decode cX3_least 28 = .ok (.istore_n 2, 1) := by decide +kernel
theorem dX3_least_29 : decode cX3_least 29 = .ok (.iload_n 2, 1) := by decide +kernel
theorem dX3_least_30 : decode cX3_least 30 = .ok (.ifCond .le 46, 3) := by decide +kernel
theorem dX3_least_33 : decode cX3_least 33 = .ok (.aload_n 0, 1) := by decide +kernel
theorem dX3_least_34 : decode cX3_least 34 = .ok (.getfield 7, 3) := by decide +kernel
theorem dX3_least_37 : decode cX3_least 37 = .ok (.aload_n 0, 1) := by decide +kernel
theorem dX3_least_38 : decode cX3_least 38 = .ok (.getfield 27, 3) := by decide +kernel
theorem dX3_least_41 : decode cX3_least 41 = .ok (.iload_n 2, 1) := by decide +kernel
theorem dX3_least_42 : decode cX3_least 42 = .ok (.iconst 1, 1) := by decide +kernel
theorem dX3_least_43 : decode cX3_least 43 = .ok (.isub, 1) := by decide +kernel
theorem dX3_least_44 : decode cX3_least 44 = .ok (.iaload, 1) := by decide +kernel
theorem dX3_least_45 : decode cX3_least 45 = .ok (.iaload, 1) := by decide +kernel
theorem dX3_least_46 : decode cX3_least 46 = .ok (.aload_n 0, 1) := by decide +kernel
theorem dX3_least_47 : decode cX3_least 47 = .ok (.getfield 7, 3) := by decide +kernel
theorem dX3_least_50 : decode cX3_least 50 = .ok (.iload_n 1, 1) := by decide +kernel
theorem dX3_least_51 : decode cX3_least 51 = .ok (.iaload, 1) := by decide +kernel
theorem dX3_least_52 : decode cX3_least 52 = .ok (.if_icmp .ge 24, 3) := by decide +kernel
theorem dX3_least_55 : decode cX3_least 55 = .ok (.aload_n 0, 1) := by decide +kernel
theorem dX3_least_56 : decode cX3_least 56 = .ok (.getfield 27, 3) := by decide +kernel
theorem dX3_least_59 : decode cX3_least 59 = .ok (.iload_n 2, 1) := by decide +kernel
theorem dX3_least_60 : decode cX3_least 60 = .ok (.aload_n 0, 1) := by decide +kernel
theorem dX3_least_61 : decode cX3_least 61 = .ok (.getfield 27, 3) := by decide +kernel
theorem dX3_least_64 : decode cX3_least 64 = .ok (.iload_n 2, 1) := by decide +kernel
theorem dX3_least_65 : decode cX3_least 65 = .ok (.iconst 1, 1) := by decide +kernel
theorem dX3_least_66 : decode cX3_least 66 = .ok (.isub, 1) := by decide +kernel
theorem dX3_least_67 : decode cX3_least 67 = .ok (.iaload, 1) := by decide +kernel
theorem dX3_least_68 : decode cX3_least 68 = .ok (.iastore, 1) := by decide +kernel
theorem dX3_least_69 : decode cX3_least 69 = .ok (.iload_n 2, 1) := by decide +kernel
theorem dX3_least_70 : decode cX3_least 70 = .ok (.iconst 1, 1) := by decide +kernel
theorem dX3_least_71 : decode cX3_least 71 = .ok (.isub, 1) := by decide +kernel
theorem dX3_least_72 : decode cX3_least 72 = .ok (.istore_n 2, 1) := by decide +kernel
theorem dX3_least_73 : decode cX3_least 73 = .ok (.goto (-44), 3) := by decide +kernel
theorem dX3_least_76 : decode cX3_least 76 = .ok (.aload_n 0, 1) := by decide +kernel
theorem dX3_least_77 : decode cX3_least 77 = .ok (.getfield 27, 3) := by decide +kernel
theorem dX3_least_80 : decode cX3_least 80 = .ok (.iload_n 2, 1) := by decide +kernel
theorem dX3_least_81 : decode cX3_least 81 = .ok (.iload_n 1, 1) := by decide +kernel
theorem dX3_least_82 : decode cX3_least 82 = .ok (.iastore, 1) := by decide +kernel
theorem dX3_least_83 : decode cX3_least 83 = .ok (.iinc 1 1, 3) := by decide +kernel
theorem dX3_least_86 : decode cX3_least 86 = .ok (.goto (-67), 3) := by decide +kernel
theorem dX3_least_89 : decode cX3_least 89 = .ok (.iconst 0, 1) := by decide +kernel
theorem dX3_least_90 : decode cX3_least 90 = .ok (.istore_n 1, 1) := by decide +kernel
theorem dX3_least_91 : decode cX3_least 91 = .ok (.iload_n 1, 1) := by decide +kernel
theorem dX3_least_92 : decode cX3_least 92 = .ok (.sipush 289, 3) := by decide +kernel
theorem dX3_least_95 : decode cX3_least 95 = .ok (.if_icmp .ge 18, 3) := by decide +kernel
theorem dX3_least_98 : decode cX3_least 98 = .ok (.aload_n 0, 1) := by decide +kernel
theorem dX3_least_99 : decode cX3_least 99 = .ok (.getfield 20, 3) := by decide +kernel
theorem dX3_least_102 : decode cX3_least 102 = .ok (.iload_n 1, 1) := by decide +kernel
theorem dX3_least_103 : decode cX3_least 103 = .ok (.ldc2_w 31, 3) := by decide +kernel
theorem dX3_least_106 : decode cX3_least 106 = .ok (.lastore, 1) := by decide +kernel
theorem dX3_least_107 : decode cX3_least 107 = .ok (.iinc 1 1, 3) := by decide +kernel
theorem dX3_least_110 : decode cX3_least 110 = .ok (.goto (-19), 3) := by decide +kernel
theorem dX3_least_113 : decode cX3_least 113 = .ok (.aload_n 0, 1) := by decide +kernel
theorem dX3_least_114 : decode cX3_least 114 = .ok (.getfield 20, 3) := by decide +kernel
theorem dX3_least_117 : decode cX3_least 117 = .ok (.iconst 1, 1) := by decide +kernel
theorem dX3_least_118 : decode cX3_least 118 = .ok (.lconst 0, 1) := by decide +kernel
theorem dX3_least_119 : decode cX3_least 119 = .ok (.lastore, 1) := by decide +kernel
theorem dX3_least_120 : decode cX3_least 120 = .ok (.ldc2_w 31, 3) := by decide +kernel
theorem dX3_least_123 : decode cX3_least 123 = .ok (.lstore_n 1, 1) := by decide +kernel
theorem dX3_least_124 : decode cX3_least 124 = .ok (.iconst 0, 1) := by decide +kernel
theorem dX3_least_125 : decode cX3_least 125 = .ok (.istore_n 3, 1) := by decide +kernel
theorem dX3_least_126 : decode cX3_least 126 = .ok (.iload_n 3, 1) := by decide +kernel
theorem dX3_least_127 : decode cX3_least 127 = .ok (.aload_n 0, 1) := by decide +kernel
theorem dX3_least_128 : decode cX3_least 128 = .ok (.getfield 17, 3) := by decide +kernel
theorem dX3_least_131 : decode cX3_least 131 = .ok (.if_icmp .gt 316, 3) := by decide +kernel
theorem dX3_least_134 : decode cX3_least 134 = .ok (.iconst 0, 1) := by decide +kernel
theorem dX3_least_135 : decode cX3_least 135 = .ok (.istore 4, 2) := by decide +kernel
theorem dX3_least_137 : decode cX3_least 137 = .ok (.iload 4, 2) := by decide +kernel
theorem dX3_least_139 : decode cX3_least 139 = .ok (.sipush 289, 3) := by decide +kernel
theorem dX3_least_142 : decode cX3_least 142 = .ok (.if_icmp .ge 19, 3) := by decide +kernel
theorem dX3_least_145 : decode cX3_least 145 = .ok (.aload_n 0, 1) := by decide +kernel
theorem dX3_least_146 : decode cX3_least 146 = .ok (.getfield 24, 3) := by decide +kernel
theorem dX3_least_149 : decode cX3_least 149 = .ok (.iload 4, 2) := by decide +kernel
theorem dX3_least_151 : decode cX3_least 151 = .ok (.ldc2_w 31, 3) := by decide +kernel
theorem dX3_least_154 : decode cX3_least 154 = .ok (.lastore, 1) := by decide +kernel
theorem dX3_least_155 : decode cX3_least 155 = .ok (.iinc 4 1, 3) := by decide +kernel
theorem dX3_least_158 : decode cX3_least 158 = .ok (.goto (-21), 3) := by decide +kernel
theorem dX3_least_161 : decode cX3_least 161 = .ok (.iconst 0, 1) := by decide +kernel
theorem dX3_least_162 : decode cX3_least 162 = .ok (.istore 4, 2) := by decide +kernel
theorem dX3_least_164 : decode cX3_least 164 = .ok (.iload 4, 2) := by decide +kernel
theorem dX3_least_166 : decode cX3_least 166 = .ok (.aload_n 0, 1) := by decide +kernel
theorem dX3_least_167 : decode cX3_least 167 = .ok (.getfield 13, 3) := by decide +kernel
theorem dX3_least_170 : decode cX3_least 170 = .ok (.if_icmp .gt 240, 3) := by decide +kernel
theorem dX3_least_173 : decode cX3_least 173 = .ok (.iconst 0, 1) := by decide +kernel
theorem dX3_least_174 : decode cX3_least 174 = .ok (.istore 5, 2) := by decide +kernel
theorem dX3_least_176 : decode cX3_least 176 = .ok (.iload 5, 2) := by decide +kernel
theorem dX3_least_178 : decode cX3_least 178 = .ok (.bipush 16, 2) := by decide +kernel
theorem dX3_least_180 : decode cX3_least 180 = .ok (.if_icmp .gt 224, 3) := by decide +kernel
theorem dX3_least_183 : decode cX3_least 183 = .ok (.aload_n 0, 1) := by decide +kernel
theorem dX3_least_184 : decode cX3_least 184 = .ok (.getfield 20, 3) := by decide +kernel
theorem dX3_least_187 : decode cX3_least 187 = .ok (.bipush 17, 2) := by decide +kernel
theorem dX3_least_189 : decode cX3_least 189 = .ok (.iload 4, 2) := by decide +kernel
theorem dX3_least_191 : decode cX3_least 191 = .ok (.imul, 1) := by decide +kernel
theorem dX3_least_192 : decode cX3_least 192 = .ok (.iload 5, 2) := by decide +kernel
theorem dX3_least_194 : decode cX3_least 194 = .ok (.iadd, 1) := by decide +kernel
theorem dX3_least_195 : decode cX3_least 195 = .ok (.laload, 1) := by decide +kernel
theorem dX3_least_196 : decode cX3_least 196 = .ok (.lstore 6, 2) := by decide +kernel
theorem dX3_least_198 : decode cX3_least 198 = .ok (.lload 6, 2) := by decide +kernel
theorem dX3_least_200 : decode cX3_least 200 = .ok (.lconst 0, 1) := by decide +kernel
theorem dX3_least_201 : decode cX3_least 201 = .ok (.lcmp, 1) := by decide +kernel
theorem dX3_least_202 : decode cX3_least 202 = .ok (.ifCond .lt 196, 3) := by decide +kernel
theorem dX3_least_205 : decode cX3_least 205 = .ok (.lconst 0, 1) := by decide +kernel
theorem dX3_least_206 : decode cX3_least 206 = .ok (.lstore 8, 2) := by decide +kernel
theorem dX3_least_208 : decode cX3_least 208 = .ok (.iconst 0, 1) := by decide +kernel
theorem dX3_least_209 : decode cX3_least 209 = .ok (.istore 10, 2) := by decide +kernel
theorem dX3_least_211 : decode cX3_least 211 = .ok (.iload 10, 2) := by decide +kernel
theorem dX3_least_213 : decode cX3_least 213 = .ok (.iload 5, 2) := by decide +kernel
theorem dX3_least_215 : decode cX3_least 215 = .ok (.if_icmp .gt 183, 3) := by decide +kernel
theorem dX3_least_218 : decode cX3_least 218 = .ok (.iload 4, 2) := by decide +kernel
theorem dX3_least_220 : decode cX3_least 220 = .ok (.iload 10, 2) := by decide +kernel
theorem dX3_least_222 : decode cX3_least 222 = .ok (.iadd, 1) := by decide +kernel
theorem dX3_least_223 : decode cX3_least 223 = .ok (.aload_n 0, 1) := by decide +kernel
theorem dX3_least_224 : decode cX3_least 224 = .ok (.getfield 13, 3) := by decide +kernel
theorem dX3_least_227 : decode cX3_least 227 = .ok (.if_icmp .gt 171, 3) := by decide +kernel
theorem dX3_least_230 : decode cX3_least 230 = .ok (.iload 10, 2) := by decide +kernel
theorem dX3_least_232 : decode cX3_least 232 = .ok (.ifCond .le 29, 3) := by decide +kernel
theorem dX3_least_235 : decode cX3_least 235 = .ok (.lload 8, 2) := by decide +kernel
theorem dX3_least_237 : decode cX3_least 237 = .ok (.aload_n 0, 1) := by decide +kernel
theorem dX3_least_238 : decode cX3_least 238 = .ok (.getfield 7, 3) := by decide +kernel
theorem dX3_least_241 : decode cX3_least 241 = .ok (.aload_n 0, 1) := by decide +kernel
theorem dX3_least_242 : decode cX3_least 242 = .ok (.getfield 27, 3) := by decide +kernel
theorem dX3_least_245 : decode cX3_least 245 = .ok (.iload 4, 2) := by decide +kernel
theorem dX3_least_247 : decode cX3_least 247 = .ok (.iload 10, 2) := by decide +kernel
theorem dX3_least_249 : decode cX3_least 249 = .ok (.iadd, 1) := by decide +kernel
theorem dX3_least_250 : decode cX3_least 250 = .ok (.iconst 1, 1) := by decide +kernel
theorem dX3_least_251 : decode cX3_least 251 = .ok (.isub, 1) := by decide +kernel
theorem dX3_least_252 : decode cX3_least 252 = .ok (.iaload, 1) := by decide +kernel
theorem dX3_least_253 : decode cX3_least 253 = .ok (.iaload, 1) := by decide +kernel
theorem dX3_least_254 : decode cX3_least 254 = .ok (.i2l, 1) := by decide +kernel
theorem dX3_least_255 : decode cX3_least 255 = .ok (.iload_n 3, 1) := by decide +kernel
theorem dX3_least_256 : decode cX3_least 256 = .ok (.i2l, 1) := by decide +kernel
theorem dX3_least_257 : decode cX3_least 257 = .ok (.lmul, 1) := by decide +kernel
theorem dX3_least_258 : decode cX3_least 258 = .ok (.ladd, 1) := by decide +kernel
theorem dX3_least_259 : decode cX3_least 259 = .ok (.lstore 8, 2) := by decide +kernel
theorem dX3_least_261 : decode cX3_least 261 = .ok (.iload 4, 2) := by decide +kernel
theorem dX3_least_263 : decode cX3_least 263 = .ok (.iload 10, 2) := by decide +kernel
theorem dX3_least_265 : decode cX3_least 265 = .ok (.iadd, 1) := by decide +kernel
theorem dX3_least_266 : decode cX3_least 266 = .ok (.aload_n 0, 1) := by decide +kernel
theorem dX3_least_267 : decode cX3_least 267 = .ok (.getfield 13, 3) := by decide +kernel
theorem dX3_least_270 : decode cX3_least 270 = .ok (.if_icmp .ne 28, 3) := by decide +kernel
theorem dX3_least_273 : decode cX3_least 273 = .ok (.lload_n 1, 1) := by decide +kernel
theorem dX3_least_274 : decode cX3_least 274 = .ok (.lconst 0, 1) := by decide +kernel
theorem dX3_least_275 : decode cX3_least 275 = .ok (.lcmp, 1) := by decide +kernel
theorem dX3_least_276 : decode cX3_least 276 = .ok (.ifCond .lt 13, 3) := by decide +kernel
theorem dX3_least_279 : decode cX3_least 279 = .ok (.lload 6, 2) := by decide +kernel
theorem dX3_least_281 : decode cX3_least 281 = .ok (.lload 8, 2) := by decide +kernel
theorem dX3_least_283 : decode cX3_least 283 = .ok (.ladd, 1) := by decide +kernel
theorem dX3_least_284 : decode cX3_least 284 = .ok (.lload_n 1, 1) := by decide +kernel
theorem dX3_least_285 : decode cX3_least 285 = .ok (.lcmp, 1) := by decide +kernel
theorem dX3_least_286 : decode cX3_least 286 = .ok (.ifCond .ge 106, 3) := by decide +kernel
theorem dX3_least_289 : decode cX3_least 289 = .ok (.lload 6, 2) := by decide +kernel
theorem dX3_least_291 : decode cX3_least 291 = .ok (.lload 8, 2) := by decide +kernel
theorem dX3_least_293 : decode cX3_least 293 = .ok (.ladd, 1) := by decide +kernel
theorem dX3_least_294 : decode cX3_least 294 = .ok (.lstore_n 1, 1) := by decide +kernel
theorem dX3_least_295 : decode cX3_least 295 = .ok (.goto 97, 3) := by decide +kernel
theorem dX3_least_298 : decode cX3_least 298 = .ok (.iconst 2, 1) := by decide +kernel
theorem dX3_least_299 : decode cX3_least 299 = .ok (.iload 5, 2) := by decide +kernel
theorem dX3_least_301 : decode cX3_least 301 = .ok (.iload 10, 2) := by decide +kernel
theorem dX3_least_303 : decode cX3_least 303 = .ok (.isub, 1) := by decide +kernel
theorem dX3_least_304 : decode cX3_least 304 = .ok (.imul, 1) := by decide +kernel
theorem dX3_least_305 : decode cX3_least 305 = .ok (.istore 11, 2) := by decide +kernel
theorem dX3_least_307 : decode cX3_least 307 = .ok (.iload 11, 2) := by decide +kernel
theorem dX3_least_309 : decode cX3_least 309 = .ok (.aload_n 0, 1) := by decide +kernel
theorem dX3_least_310 : decode cX3_least 310 = .ok (.getfield 13, 3) := by decide +kernel
theorem dX3_least_313 : decode cX3_least 313 = .ok (.iload 4, 2) := by decide +kernel
theorem dX3_least_315 : decode cX3_least 315 = .ok (.isub, 1) := by decide +kernel
theorem dX3_least_316 : decode cX3_least 316 = .ok (.iload 10, 2) := by decide +kernel
theorem dX3_least_318 : decode cX3_least 318 = .ok (.isub, 1) := by decide +kernel
theorem dX3_least_319 : decode cX3_least 319 = .ok (.if_icmp .le 15, 3) := by decide +kernel
theorem dX3_least_322 : decode cX3_least 322 = .ok (.aload_n 0, 1) := by decide +kernel
theorem dX3_least_323 : decode cX3_least 323 = .ok (.getfield 13, 3) := by decide +kernel
theorem dX3_least_326 : decode cX3_least 326 = .ok (.iload 4, 2) := by decide +kernel
theorem dX3_least_328 : decode cX3_least 328 = .ok (.isub, 1) := by decide +kernel
theorem dX3_least_329 : decode cX3_least 329 = .ok (.iload 10, 2) := by decide +kernel
theorem dX3_least_331 : decode cX3_least 331 = .ok (.isub, 1) := by decide +kernel
theorem dX3_least_332 : decode cX3_least 332 = .ok (.istore 11, 2) := by decide +kernel
theorem dX3_least_334 : decode cX3_least 334 = .ok (.bipush 17, 2) := by decide +kernel
theorem dX3_least_336 : decode cX3_least 336 = .ok (.iload 4, 2) := by decide +kernel
theorem dX3_least_338 : decode cX3_least 338 = .ok (.iload 10, 2) := by decide +kernel
theorem dX3_least_340 : decode cX3_least 340 = .ok (.iadd, 1) := by decide +kernel
theorem dX3_least_341 : decode cX3_least 341 = .ok (.imul, 1) := by decide +kernel
theorem dX3_least_342 : decode cX3_least 342 = .ok (.iload 11, 2) := by decide +kernel
theorem dX3_least_344 : decode cX3_least 344 = .ok (.iadd, 1) := by decide +kernel
theorem dX3_least_345 : decode cX3_least 345 = .ok (.istore 12, 2) := by decide +kernel
theorem dX3_least_347 : decode cX3_least 347 = .ok (.iload 11, 2) := by decide +kernel
theorem dX3_least_349 : decode cX3_least 349 = .ok (.ifCond .le 43, 3) := by decide +kernel
theorem dX3_least_352 : decode cX3_least 352 = .ok (.aload_n 0, 1) := by decide +kernel
theorem dX3_least_353 : decode cX3_least 353 = .ok (.getfield 24, 3) := by decide +kernel
theorem dX3_least_356 : decode cX3_least 356 = .ok (.iload 12, 2) := by decide +kernel
theorem dX3_least_358 : decode cX3_least 358 = .ok (.laload, 1) := by decide +kernel
theorem dX3_least_359 : decode cX3_least 359 = .ok (.lconst 0, 1) := by decide +kernel
theorem dX3_least_360 : decode cX3_least 360 = .ok (.lcmp, 1) := by decide +kernel
theorem dX3_least_361 : decode cX3_least 361 = .ok (.ifCond .lt 19, 3) := by decide +kernel
theorem dX3_least_364 : decode cX3_least 364 = .ok (.lload 6, 2) := by decide +kernel
theorem dX3_least_366 : decode cX3_least 366 = .ok (.lload 8, 2) := by decide +kernel
theorem dX3_least_368 : decode cX3_least 368 = .ok (.ladd, 1) := by decide +kernel
theorem dX3_least_369 : decode cX3_least 369 = .ok (.aload_n 0, 1) := by decide +kernel
theorem dX3_least_370 : decode cX3_least 370 = .ok (.getfield 24, 3) := by decide +kernel
theorem dX3_least_373 : decode cX3_least 373 = .ok (.iload 12, 2) := by decide +kernel
theorem dX3_least_375 : decode cX3_least 375 = .ok (.laload, 1) := by decide +kernel
theorem dX3_least_376 : decode cX3_least 376 = .ok (.lcmp, 1) := by decide +kernel
theorem dX3_least_377 : decode cX3_least 377 = .ok (.ifCond .ge 15, 3) := by decide +kernel
theorem dX3_least_380 : decode cX3_least 380 = .ok (.aload_n 0, 1) := by decide +kernel
theorem dX3_least_381 : decode cX3_least 381 = .ok (.getfield 24, 3) := by decide +kernel
theorem dX3_least_384 : decode cX3_least 384 = .ok (.iload 12, 2) := by decide +kernel
theorem dX3_least_386 : decode cX3_least 386 = .ok (.lload 6, 2) := by decide +kernel
theorem dX3_least_388 : decode cX3_least 388 = .ok (.lload 8, 2) := by decide +kernel
theorem dX3_least_390 : decode cX3_least 390 = .ok (.ladd, 1) := by decide +kernel
theorem dX3_least_391 : decode cX3_least 391 = .ok (.lastore, 1) := by decide +kernel
theorem dX3_least_392 : decode cX3_least 392 = .ok (.iinc 10 1, 3) := by decide +kernel
theorem dX3_least_395 : decode cX3_least 395 = .ok (.goto (-184), 3) := by decide +kernel
theorem dX3_least_398 : decode cX3_least 398 = .ok (.iinc 5 1, 3) := by decide +kernel
theorem dX3_least_401 : decode cX3_least 401 = .ok (.goto (-225), 3) := by decide +kernel
theorem dX3_least_404 : decode cX3_least 404 = .ok (.iinc 4 1, 3) := by decide +kernel
theorem dX3_least_407 : decode cX3_least 407 = .ok (.goto (-243), 3) := by decide +kernel
theorem dX3_least_410 : decode cX3_least 410 = .ok (.iconst 0, 1) := by decide +kernel
theorem dX3_least_411 : decode cX3_least 411 = .ok (.istore 4, 2) := by decide +kernel
theorem dX3_least_413 : decode cX3_least 413 = .ok (.iload 4, 2) := by decide +kernel
theorem dX3_least_415 : decode cX3_least 415 = .ok (.sipush 289, 3) := by decide +kernel
theorem dX3_least_418 : decode cX3_least 418 = .ok (.if_icmp .ge 23, 3) := by decide +kernel
theorem dX3_least_421 : decode cX3_least 421 = .ok (.aload_n 0, 1) := by decide +kernel
theorem dX3_least_422 : decode cX3_least 422 = .ok (.getfield 20, 3) := by decide +kernel
theorem dX3_least_425 : decode cX3_least 425 = .ok (.iload 4, 2) := by decide +kernel
theorem dX3_least_427 : decode cX3_least 427 = .ok (.aload_n 0, 1) := by decide +kernel
theorem dX3_least_428 : decode cX3_least 428 = .ok (.getfield 24, 3) := by decide +kernel
theorem dX3_least_431 : decode cX3_least 431 = .ok (.iload 4, 2) := by decide +kernel
theorem dX3_least_433 : decode cX3_least 433 = .ok (.laload, 1) := by decide +kernel
theorem dX3_least_434 : decode cX3_least 434 = .ok (.lastore, 1) := by decide +kernel
theorem dX3_least_435 : decode cX3_least 435 = .ok (.iinc 4 1, 3) := by decide +kernel
theorem dX3_least_438 : decode cX3_least 438 = .ok (.goto (-25), 3) := by decide +kernel
theorem dX3_least_441 : decode cX3_least 441 = .ok (.iinc 3 1, 3) := by decide +kernel
theorem dX3_least_444 : decode cX3_least 444 = .ok (.goto (-318), 3) := by decide +kernel
theorem dX3_least_447 : decode cX3_least 447 = .ok (.lload_n 1, 1) := by decide +kernel
theorem dX3_least_448 : decode cX3_least 448 = .ok (.lreturn, 1) := by decide +kernel
theorem q4 : (Jvm.Cond.initialized "TrimCodesModel") ∈ lw_all := lw_g (lw_at lw_m0 4 rfl) rfl
theorem q112 : (Jvm.Cond.instantiable "TrimCodesModel" (6 : Nat)) ∈ lw_all := lw_g (lw_at lw_m0 112 rfl) rfl
theorem q114 : (Jvm.Cond.instanceMethod ({ cls := "TrimCodesModel", name := "<init>", desc := "()V" } : Jvm.MethodName)) ∈ lw_all := lw_g (lw_at lw_m0 114 rfl) rfl
theorem q115 : (Jvm.Cond.code ({ cls := "TrimCodesModel", name := "<init>", desc := "()V" } : Jvm.MethodName) prog_5_method_1_code (1 : Nat) (Option.none : Option Jvm.ClassFile.FieldType)) ∈ lw_all := lw_g (lw_at lw_m0 115 rfl) rfl
theorem q116 : (Jvm.Cond.methodLink "TrimCodesModel" (1 : Nat) ({ cls := "java/lang/Object", name := "<init>", desc := "()V" } : Jvm.MethodName)) ∈ lw_all := lw_g (lw_at lw_m0 116 rfl) rfl
theorem q117 : (Jvm.Cond.fieldLink "TrimCodesModel" (7 : Nat) "TrimCodesModel" "weight" "[I") ∈ lw_all := lw_g (lw_at lw_m0 117 rfl) rfl
theorem q118 : (Jvm.Cond.fieldLink "TrimCodesModel" (13 : Nat) "TrimCodesModel" "n" "I") ∈ lw_all := lw_g (lw_at lw_m0 118 rfl) rfl
theorem q119 : (Jvm.Cond.fieldLink "TrimCodesModel" (17 : Nat) "TrimCodesModel" "limit" "I") ∈ lw_all := lw_g (lw_at lw_m0 119 rfl) rfl
theorem q120 : (Jvm.Cond.fieldLink "TrimCodesModel" (20 : Nat) "TrimCodesModel" "best" "[J") ∈ lw_all := lw_g (lw_at lw_m0 120 rfl) rfl
theorem q121 : (Jvm.Cond.fieldLink "TrimCodesModel" (24 : Nat) "TrimCodesModel" "next" "[J") ∈ lw_all := lw_g (lw_at lw_m0 121 rfl) rfl
theorem q122 : (Jvm.Cond.fieldLink "TrimCodesModel" (27 : Nat) "TrimCodesModel" "order" "[I") ∈ lw_all := lw_g (lw_at lw_m0 122 rfl) rfl
theorem q123 : (Jvm.Cond.laysFinal "TrimCodesModel" "TrimCodesModel" "weight" "[I") ∈ lw_all := lw_g (lw_at lw_m0 123 rfl) rfl
theorem q124 : (Jvm.Cond.soleField "TrimCodesModel" "weight") ∈ lw_all := lw_g (lw_at lw_m0 124 rfl) rfl
theorem q125 : (Jvm.Cond.lays "TrimCodesModel" "TrimCodesModel" "n" "I") ∈ lw_all := lw_g (lw_at lw_m0 125 rfl) rfl
theorem q126 : (Jvm.Cond.soleField "TrimCodesModel" "n") ∈ lw_all := lw_g (lw_at lw_m0 126 rfl) rfl
theorem q127 : (Jvm.Cond.lays "TrimCodesModel" "TrimCodesModel" "limit" "I") ∈ lw_all := lw_g (lw_at lw_m0 127 rfl) rfl
theorem q128 : (Jvm.Cond.soleField "TrimCodesModel" "limit") ∈ lw_all := lw_g (lw_at lw_m0 128 rfl) rfl
theorem q129 : (Jvm.Cond.laysFinal "TrimCodesModel" "TrimCodesModel" "best" "[J") ∈ lw_all := lw_g (lw_at lw_m0 129 rfl) rfl
theorem q130 : (Jvm.Cond.soleField "TrimCodesModel" "best") ∈ lw_all := lw_g (lw_at lw_m0 130 rfl) rfl
theorem q131 : (Jvm.Cond.laysFinal "TrimCodesModel" "TrimCodesModel" "next" "[J") ∈ lw_all := lw_g (lw_at lw_m0 131 rfl) rfl
theorem q132 : (Jvm.Cond.soleField "TrimCodesModel" "next") ∈ lw_all := lw_g (lw_at lw_m0 132 rfl) rfl
theorem q133 : (Jvm.Cond.laysFinal "TrimCodesModel" "TrimCodesModel" "order" "[I") ∈ lw_all := lw_g (lw_at lw_m0 133 rfl) rfl
theorem q134 : (Jvm.Cond.soleField "TrimCodesModel" "order") ∈ lw_all := lw_g (lw_at lw_m0 134 rfl) rfl
theorem q135 : (Jvm.Cond.superclass "TrimCodesModel" "java/lang/Object") ∈ lw_all := lw_g (lw_at lw_m0 135 rfl) rfl
theorem q137 : (Jvm.Cond.instanceMethod ({ cls := "TrimCodesModel", name := "letters", desc := "(I)V" } : Jvm.MethodName)) ∈ lw_all := lw_g (lw_at lw_m0 137 rfl) rfl
theorem q138 : (Jvm.Cond.selects "TrimCodesModel" ({ cls := "TrimCodesModel", name := "letters", desc := "(I)V" } : Jvm.MethodName) ({ cls := "TrimCodesModel", name := "letters", desc := "(I)V" } : Jvm.MethodName)) ∈ lw_all := lw_g (lw_at lw_m0 138 rfl) rfl
theorem q139 : (Jvm.Cond.code ({ cls := "TrimCodesModel", name := "letters", desc := "(I)V" } : Jvm.MethodName) prog_5_method_2_code (2 : Nat) (Option.none : Option Jvm.ClassFile.FieldType)) ∈ lw_all := lw_g (lw_at lw_m0 139 rfl) rfl
theorem q140 : (Jvm.Cond.constant "TrimCodesModel" (30 : Nat) (2147483647 : Int32)) ∈ lw_all := lw_g (lw_at lw_m0 140 rfl) rfl
theorem q142 : (Jvm.Cond.instanceMethod ({ cls := "TrimCodesModel", name := "limit", desc := "(I)V" } : Jvm.MethodName)) ∈ lw_all := lw_g (lw_at lw_m0 142 rfl) rfl
theorem q143 : (Jvm.Cond.selects "TrimCodesModel" ({ cls := "TrimCodesModel", name := "limit", desc := "(I)V" } : Jvm.MethodName) ({ cls := "TrimCodesModel", name := "limit", desc := "(I)V" } : Jvm.MethodName)) ∈ lw_all := lw_g (lw_at lw_m0 143 rfl) rfl
theorem q144 : (Jvm.Cond.code ({ cls := "TrimCodesModel", name := "limit", desc := "(I)V" } : Jvm.MethodName) prog_5_method_3_code (2 : Nat) (Option.none : Option Jvm.ClassFile.FieldType)) ∈ lw_all := lw_g (lw_at lw_m0 144 rfl) rfl
theorem q146 : (Jvm.Cond.instanceMethod ({ cls := "TrimCodesModel", name := "weight", desc := "(IIIII)V" } : Jvm.MethodName)) ∈ lw_all := lw_g (lw_at lw_m0 146 rfl) rfl
theorem q147 : (Jvm.Cond.selects "TrimCodesModel" ({ cls := "TrimCodesModel", name := "weight", desc := "(IIIII)V" } : Jvm.MethodName) ({ cls := "TrimCodesModel", name := "weight", desc := "(IIIII)V" } : Jvm.MethodName)) ∈ lw_all := lw_g (lw_at lw_m0 147 rfl) rfl
theorem q148 : (Jvm.Cond.code ({ cls := "TrimCodesModel", name := "weight", desc := "(IIIII)V" } : Jvm.MethodName) prog_5_method_4_code (7 : Nat) (Option.none : Option Jvm.ClassFile.FieldType)) ∈ lw_all := lw_g (lw_at lw_m0 148 rfl) rfl
theorem q150 : (Jvm.Cond.instanceMethod ({ cls := "TrimCodesModel", name := "least", desc := "()J" } : Jvm.MethodName)) ∈ lw_all := lw_g (lw_at lw_m0 150 rfl) rfl
theorem q151 : (Jvm.Cond.selects "TrimCodesModel" ({ cls := "TrimCodesModel", name := "least", desc := "()J" } : Jvm.MethodName) ({ cls := "TrimCodesModel", name := "least", desc := "()J" } : Jvm.MethodName)) ∈ lw_all := lw_g (lw_at lw_m0 151 rfl) rfl
theorem q152 : (Jvm.Cond.code ({ cls := "TrimCodesModel", name := "least", desc := "()J" } : Jvm.MethodName) prog_5_method_5_code (13 : Nat) (Option.some Jvm.ClassFile.FieldType.long)) ∈ lw_all := lw_g (lw_at lw_m0 152 rfl) rfl
theorem q153 : (Jvm.Cond.constantLong "TrimCodesModel" (31 : Nat) (-1 : Int64)) ∈ lw_all := lw_g (lw_at lw_m0 153 rfl) rfl
theorem in_X3 : ∀ w ∈ wsX30, w ∈ lw_all := lw_in wsX30 [123, 125, 127, 129, 131, 133] (by decide +kernel) (by decide +kernel)
end
section
/-! PURE LAW 1: sorted weights. tc_L f n: the list f 0 .. f (n-1); tc_so r f w n: f is the w's on [0,n), in the order r -/
def tc_L (f : Nat → Nat) (n : Nat) : List Nat := (List.range n).map f
def tc_so (r : Nat → Nat → Prop) (f w : Nat → Nat) (n : Nat) : Prop := (tc_L f n).Perm (tc_L w n) ∧ ∀ i j, i < j → j < n → r (f i) (f j)
def tc_asc (w : Nat → Nat) (n : Nat) : List Nat := (tc_L w n).mergeSort (fun a b => decide (a ≤ b))
/-- the i-th least weight -/
def tc_a (w : Nat → Nat) (n i : Nat) : Nat := (tc_asc w n).getD i 0
/-- the sum of the k least weights -/
def tc_S (w : Nat → Nat) (n : Nat) : Nat → Nat
  | 0 => 0
  | k + 1 => tc_S w n k + tc_a w n k
theorem tc_L_succ (f : Nat → Nat) (n : Nat) : tc_L f (n + 1) = tc_L f n ++ [f n] := by
  unfold tc_L
  rw [List.range_succ, List.map_append]
  rfl
theorem tc_L_congr {f g : Nat → Nat} {n : Nat} (h : ∀ i, i < n → f i = g i) : tc_L f n = tc_L g n := by
  unfold tc_L
  refine List.map_congr_left fun i hi => h i (List.mem_range.mp hi)
theorem tc_L_get {f : Nat → Nat} {n i : Nat} (h : i < n) : (tc_L f n).getD i 0 = f i := by
  unfold tc_L
  simp [List.getD, h]
theorem tc_L_pair {r : Nat → Nat → Prop} {f : Nat → Nat} : ∀ {n : Nat}, (∀ i j, i < j → j < n → r (f i) (f j)) → (tc_L f n).Pairwise r := by
  intro n
  induction n with
  | zero => intro _; exact List.Pairwise.nil
  | succ n ih =>
    intro h
    rw [tc_L_succ, List.pairwise_append]
    refine ⟨ih fun i j hij hj => h i j hij (by omega), List.pairwise_singleton _ _, fun a ha b hb => ?_⟩
    rw [List.mem_singleton] at hb
    subst hb
    unfold tc_L at ha
    obtain ⟨i, hi, rfl⟩ := List.mem_map.mp ha
    exact h i n (List.mem_range.mp hi) (by omega)
theorem tc_up_a {f w : Nat → Nat} {n : Nat} (h : tc_so (· ≤ ·) f w n) : ∀ i, i < n → f i = tc_a w n i := by
  intro i hi
  have h1 : (tc_L f n).Pairwise (· ≤ ·) := tc_L_pair h.2
  have h2 : (tc_asc w n).Pairwise (· ≤ ·) := by
    have := List.pairwise_mergeSort (le := fun a b : Nat => decide (a ≤ b)) (fun a b c h1 h2 => by simp at *; omega) (fun a b => by simp; omega) (tc_L w n)
    exact this.imp (fun h => by simpa using h)
  have h3 : (tc_L f n).Perm (tc_asc w n) := h.1.trans (List.mergeSort_perm _ _).symm
  have h4 : tc_L f n = tc_asc w n := List.Perm.eq_of_pairwise (le := (· ≤ ·)) (fun a b _ _ h1 h2 => Nat.le_antisymm h1 h2) h1 h2 h3
  unfold tc_a
  rw [← h4, tc_L_get hi]
theorem tc_L_rev (f : Nat → Nat) : ∀ n : Nat, tc_L (fun i => f (n - 1 - i)) n = (tc_L f n).reverse := by
  intro n
  apply List.ext_getElem?
  intro i
  unfold tc_L
  by_cases hi : i < n
  · rw [List.getElem?_reverse (by simp; exact hi)]
    simp [hi, show n - 1 - i < n by omega]
  · rw [List.getElem?_eq_none (by simp; omega), List.getElem?_eq_none (by simp; omega)]
theorem tc_dn_a {f w : Nat → Nat} {n : Nat} (h : tc_so (· ≥ ·) f w n) : ∀ i, i < n → f i = tc_a w n (n - 1 - i) := by
  intro i hi
  have h1 : tc_so (· ≤ ·) (fun i => f (n - 1 - i)) w n := by
    refine ⟨?_, fun a b hab hb => ?_⟩
    · rw [tc_L_rev]
      exact (List.reverse_perm _).trans h.1
    · exact h.2 (n - 1 - b) (n - 1 - a) (by omega) (by omega)
  have h2 := tc_up_a h1 (n - 1 - i) (by omega)
  rw [← h2]
  show f i = f (n - 1 - (n - 1 - i))
  rw [show n - 1 - (n - 1 - i) = i by omega]
theorem tc_ins_perm {f0 f1 : Nat → Nat} {x t : Nat} : ∀ {k : Nat}, t ≤ k → (∀ i, i < t → f1 i = f0 i) → f1 t = x → (∀ i, t ≤ i → i < k → f1 (i + 1) = f0 i) → (tc_L f1 (k + 1)).Perm (x :: tc_L f0 k) := by
  intro k
  induction k with
  | zero =>
    intro ht h1 h2 h3
    have e : t = 0 := by omega
    subst e
    rw [tc_L_succ, h2]
    exact List.Perm.refl _
  | succ k ih =>
    intro ht h1 h2 h3
    by_cases e : t = k + 1
    · subst e
      rw [tc_L_succ, h2, tc_L_congr h1]
      exact List.perm_append_singleton _ _
    · have p := ih (by omega) h1 h2 (fun i a b => h3 i a (by omega))
      rw [tc_L_succ f1 (k + 1), tc_L_succ f0 k, h3 k (by omega) (by omega)]
      exact p.append_right [f0 k]
/-- one more weight is put where it belongs -/
theorem tc_so_step {r : Nat → Nat → Prop} (tr : ∀ a b c, r a b → r b c → r a c) {f0 f1 w : Nat → Nat} {t k : Nat} (h : tc_so r f0 w k) (ht : t ≤ k) (h1 : ∀ i, i < t → f1 i = f0 i) (h2 : f1 t = w k) (h3 : ∀ i, t ≤ i → i < k → f1 (i + 1) = f0 i) (h4 : ∀ i, t ≤ i → i < k → r (w k) (f0 i)) (h5 : t = 0 ∨ r (f0 (t - 1)) (w k)) : tc_so r f1 w (k + 1) := by
  refine ⟨?_, fun i j hij hj => ?_⟩
  · refine (tc_ins_perm ht h1 h2 h3).trans ?_
    rw [tc_L_succ w k]
    exact (h.1.cons _).trans (List.perm_append_singleton _ _).symm
  · have lo : ∀ i, i < t → r (f0 i) (w k) := by
      intro i hi
      rcases h5 with e | e
      · omega
      · by_cases q : i = t - 1
        · rw [q]; exact e
        · exact tr _ _ _ (h.2 i (t - 1) (by omega) (by omega)) e
    rcases Nat.lt_trichotomy j t with a | a | a
    · rw [h1 i (by omega), h1 j a]
      exact h.2 i j hij (by omega)
    · subst a
      rw [h2, h1 i hij]
      exact lo i hij
    · obtain ⟨j', rfl⟩ : ∃ j', j = j' + 1 := ⟨j - 1, by omega⟩
      rw [h3 j' (by omega) (by omega)]
      rcases Nat.lt_trichotomy i t with b | b | b
      · rw [h1 i b]
        exact tr _ _ _ (lo i b) (h4 j' (by omega) (by omega))
      · subst b
        rw [h2]
        exact h4 j' (by omega) (by omega)
      · obtain ⟨i', rfl⟩ : ∃ i', i = i' + 1 := ⟨i - 1, by omega⟩
        rw [h3 i' (by omega) (by omega)]
        exact h.2 i' j' (by omega) (by omega)
theorem tc_so_0 {r : Nat → Nat → Prop} {f w : Nat → Nat} : tc_so r f w 0 := ⟨List.Perm.refl _, fun i j _ h => absurd h (by omega)⟩
theorem tc_so_congr {r : Nat → Nat → Prop} {f g w : Nat → Nat} {n : Nat} (h : tc_so r f w n) (e : ∀ i, i < n → g i = f i) : tc_so r g w n := by
  refine ⟨?_, fun i j hij hj => ?_⟩
  · rw [tc_L_congr e]; exact h.1
  · rw [e i (by omega), e j hj]; exact h.2 i j hij hj
theorem tc_a_lt {w : Nat → Nat} {n : Nat} (hw : ∀ i, w i < 2147483648) (i : Nat) : tc_a w n i < 2147483648 := by
  unfold tc_a
  by_cases h : i < (tc_asc w n).length
  · have hm : (tc_asc w n).getD i 0 ∈ tc_asc w n := by
      rw [List.getD_eq_getElem?_getD, List.getElem?_eq_getElem h]
      exact List.getElem_mem h
    have h2 := (List.mergeSort_perm (tc_L w n) (fun a b => decide (a ≤ b))).mem_iff.mp hm
    unfold tc_L at h2
    obtain ⟨k, -, e⟩ := List.mem_map.mp h2
    rw [← e]
    exact hw k
  · rw [List.getD_eq_getElem?_getD, List.getElem?_eq_none (by omega)]
    decide
theorem tc_S_le {w : Nat → Nat} {n : Nat} (hw : ∀ i, w i < 2147483648) : ∀ k, tc_S w n k ≤ k * 2147483648 := by
  intro k
  induction k with
  | zero => exact Nat.le_refl _
  | succ k ih =>
    have := tc_a_lt (n := n) hw k
    show tc_S w n k + tc_a w n k ≤ _
    omega
theorem tc_S_mono (w : Nat → Nat) (n : Nat) : ∀ a b, a ≤ b → tc_S w n a ≤ tc_S w n b := by
  intro a b h
  induction b with
  | zero => rw [show a = 0 by omega]; exact Nat.le_refl _
  | succ b ih =>
    by_cases e : a = b + 1
    · rw [e]; exact Nat.le_refl _
    · have := ih (by omega)
      show _ ≤ tc_S w n b + tc_a w n b
      omega
/-! PURE LAW 2: what the class computes, level by level -/
def tc_NEV : Nat := 2305843009213693951
def tc_v (c : Nat → Nat → Nat) (left nodes t : Nat) : Nat := c (left - t) (min (2 * (nodes - t)) (left - t))
def tc_bl (c : Nat → Nat → Nat) (S : Nat → Nat) (left nodes : Nat) : Nat → Nat
  | 0 => tc_NEV
  | t + 1 => if tc_v c left nodes t < tc_NEV then min (tc_bl c S left nodes t) (tc_v c left nodes t + S (left - t)) else tc_bl c S left nodes t
def tc_b (c : Nat → Nat → Nat) (S : Nat → Nat) (left nodes : Nat) : Nat := if left = nodes then 0 else tc_bl c S left nodes nodes
def tc_E (S : Nat → Nat) : Nat → Nat → Nat → Nat
  | 0 => fun _ _ => tc_NEV
  | i + 1 => fun left nodes => tc_b (tc_E S i) S left nodes
theorem tc_bl_NEV (c : Nat → Nat → Nat) (S : Nat → Nat) (left nodes : Nat) : ∀ t, tc_bl c S left nodes t ≤ tc_NEV := by
  intro t
  induction t with
  | zero => exact Nat.le_refl _
  | succ t ih =>
    simp only [tc_bl]
    split
    · exact Nat.le_trans (Nat.min_le_left _ _) ih
    · exact ih
theorem tc_b_NEV (c : Nat → Nat → Nat) (S : Nat → Nat) (left nodes : Nat) : tc_b c S left nodes ≤ tc_NEV := by
  unfold tc_b
  split
  · exact Nat.zero_le _
  · exact tc_bl_NEV _ _ _ _ _
theorem tc_E_NEV (S : Nat → Nat) (i left nodes : Nat) : tc_E S i left nodes ≤ tc_NEV := by
  cases i with
  | zero => exact Nat.le_refl _
  | succ i => exact tc_b_NEV _ _ _ _
theorem tc_bl_le {c : Nat → Nat → Nat} {S : Nat → Nat} {left nodes : Nat} : ∀ {t u : Nat}, u < t → tc_bl c S left nodes t ≤ tc_v c left nodes u + S (left - u) := by
  intro t
  induction t with
  | zero => intro u h; omega
  | succ t ih =>
    intro u h
    by_cases e : u = t
    · subst e
      simp only [tc_bl]
      split
      · exact Nat.min_le_right _ _
      · have := tc_bl_NEV c S left nodes u
        omega
    · have := ih (u := u) (by omega)
      simp only [tc_bl]
      split
      · exact Nat.le_trans (Nat.min_le_left _ _) this
      · exact this
theorem tc_bl_att {c : Nat → Nat → Nat} {S : Nat → Nat} {left nodes : Nat} : ∀ {t : Nat}, tc_bl c S left nodes t < tc_NEV → ∃ u, u < t ∧ tc_v c left nodes u < tc_NEV ∧ tc_bl c S left nodes t = tc_v c left nodes u + S (left - u) := by
  intro t
  induction t with
  | zero => intro h; exact absurd h (Nat.lt_irrefl _)
  | succ t ih =>
    intro h
    simp only [tc_bl] at h ⊢
    split at h
    · rename_i hv
      rw [if_pos hv]
      by_cases q : tc_v c left nodes t + S (left - t) < tc_bl c S left nodes t
      · exact ⟨t, by omega, hv, Nat.min_eq_right (by omega)⟩
      · rw [Nat.min_eq_left (by omega)] at h ⊢
        obtain ⟨u, a, b, d⟩ := ih h
        exact ⟨u, by omega, b, d⟩
    · rename_i hv
      rw [if_neg hv]
      obtain ⟨u, a, b, d⟩ := ih h
      exact ⟨u, by omega, b, d⟩
/-- the deepest level -/
theorem tc_E_1 (S : Nat → Nat) (left nodes : Nat) : tc_E S 1 left nodes = if left = nodes then 0 else tc_NEV := by
  show tc_b (tc_E S 0) S left nodes = _
  unfold tc_b
  split
  · rfl
  · generalize hn : nodes = t
    have : ∀ t, tc_bl (tc_E S 0) S left nodes t = tc_NEV := by
      intro t
      induction t with
      | zero => rfl
      | succ t ih =>
        simp only [tc_bl]
        rw [if_neg, ih]
        show ¬ tc_NEV < tc_NEV
        exact Nat.lt_irrefl _
    rw [← hn]
    exact this nodes
theorem tc_feas {S : Nat → Nat} {n : Nat} (hm : ∀ a b, a ≤ b → S a ≤ S b) : ∀ (r left nodes : Nat), left ≤ n → 0 < nodes → nodes ≤ left → left ≤ nodes * 2 ^ r → r * S n < tc_NEV → tc_E S (r + 1) left nodes ≤ r * S n := by
  intro r
  induction r with
  | zero =>
    intro left nodes h1 h2 h3 h4 h5
    rw [tc_E_1, if_pos (by omega)]
    exact Nat.zero_le _
  | succ r ih =>
    intro left nodes h1 h2 h3 h4 h5
    show tc_b (tc_E S (r + 1)) S left nodes ≤ _
    unfold tc_b
    split
    · exact Nat.zero_le _
    · have e1 : (r + 1) * S n = r * S n + S n := by rw [Nat.add_mul, Nat.one_mul]
      have h7 : left ≤ (min (2 * nodes) left) * 2 ^ r := by
        by_cases q : 2 * nodes ≤ left
        · rw [Nat.min_eq_left q]
          have : 2 * nodes * 2 ^ r = nodes * 2 ^ (r + 1) := by
            rw [Nat.pow_succ, Nat.mul_comm 2 nodes, Nat.mul_assoc, Nat.mul_comm 2 (2 ^ r)]
          omega
        · rw [Nat.min_eq_right (by omega)]
          exact Nat.le_mul_of_pos_right _ (Nat.two_pow_pos r)
      have h8 := ih left (min (2 * nodes) left) h1 (by omega) (by omega) h7 (by omega)
      have h9 := tc_bl_le (c := tc_E S (r + 1)) (S := S) (left := left) (nodes := nodes) (t := nodes) (u := 0) h2
      have h10 : tc_v (tc_E S (r + 1)) left nodes 0 = tc_E S (r + 1) left (min (2 * nodes) left) := rfl
      have h11 := hm left n h1
      rw [h10] at h9
      have h12 : S (left - 0) = S left := rfl
      omega
end
section
/-! PURE LAW 3: the reference's table, filled from the top; nothing is lost (tc_so1, tc_as), the best way is kept (the third limb) -/
def tc_Phi (S : Nat → Nat) (n lim d j k : Nat) : Nat := d * S (n - j) + tc_E S (lim + 1 - d) (n - j) k
def tc_opt (S : Nat → Nat) (n lim : Nat) : Nat := tc_E S (lim + 1) n 1
def tc_M : Nat := 549755813888
def tc_C (S : Nat → Nat) (n lim : Nat) : Prop := 2 ≤ n ∧ n ≤ 16 ∧ lim ≤ 15 ∧ S 0 = 0 ∧ (∀ a b, a ≤ b → S a ≤ S b) ∧ S n ≤ 34359738368 ∧ n ≤ 2 ^ lim
def tc_so1 (S : Nat → Nat) (n lim d : Nat) (B : Nat → Option Nat) : Prop := ∀ j k c, j ≤ n → k ≤ 16 → B (17 * j + k) = some c → j < n ∧ 0 < k ∧ k ≤ n - j ∧ tc_opt S n lim ≤ c + tc_Phi S n lim d j k ∧ c ≤ d * tc_M
def tc_as (S : Nat → Nat) (n lim : Nat) (ans : Option Nat) : Prop := ∀ v, ans = some v → tc_opt S n lim ≤ v ∧ v ≤ 16 * tc_M
def tc_it (S : Nat → Nat) (n lim d : Nat) (B : Nat → Option Nat) (j k a : Nat) : Prop := ∃ c, B (17 * j + k) = some c ∧ j ≤ n ∧ k ≤ 16 ∧ a ≤ k ∧ ((j + a = n ∧ c + d * S (n - j) ≤ tc_opt S n lim) ∨ (j + a < n ∧ a < k ∧ c + d * (S (n - j) - S (n - j - a)) + tc_Phi S n lim (d + 1) (j + a) (min (2 * (k - a)) (n - j - a)) ≤ tc_opt S n lim))
def tc_un (J K A j k a : Nat) : Prop := J < j ∨ (J = j ∧ (K < k ∨ (K = k ∧ A ≤ a)))
def tc_hit (S : Nat → Nat) (n lim d : Nat) (X : Nat → Option Nat) : Prop := ∃ j k c, j ≤ n ∧ k ≤ 16 ∧ X (17 * j + k) = some c ∧ c + tc_Phi S n lim d j k ≤ tc_opt S n lim
def tc_got (S : Nat → Nat) (n lim : Nat) (ans : Option Nat) : Prop := ∃ v, ans = some v ∧ v ≤ tc_opt S n lim
def tc_I (S : Nat → Nat) (n lim d : Nat) (B X : Nat → Option Nat) (ans : Option Nat) (J K A : Nat) : Prop :=
  tc_so1 S n lim d B ∧ tc_so1 S n lim (d + 1) X ∧ tc_as S n lim ans ∧ (tc_got S n lim ans ∨ tc_hit S n lim (d + 1) X ∨ ∃ j k a, tc_un J K A j k a ∧ tc_it S n lim d B j k a)
def tc_J (S : Nat → Nat) (n lim d : Nat) (B : Nat → Option Nat) (ans : Option Nat) : Prop := tc_so1 S n lim d B ∧ tc_as S n lim ans ∧ (tc_got S n lim ans ∨ tc_hit S n lim d B)
theorem tc_opt_lt {S : Nat → Nat} {n lim : Nat} (h : tc_C S n lim) : tc_opt S n lim < tc_NEV := by
  obtain ⟨h1, h2, h3, h4, h5, h6, h7⟩ := h
  have hb : lim * S n ≤ 15 * 34359738368 := Nat.mul_le_mul h3 h6
  have hN : (15 * 34359738368 : Nat) < tc_NEV := by decide
  have := tc_feas (S := S) (n := n) h5 lim n 1 (Nat.le_refl _) (by omega) (by omega) (by omega) (by omega)
  unfold tc_opt
  omega
def tc_B0 : Nat → Option Nat := fun p => if p = 1 then some 0 else none
theorem tc_J_0 {S : Nat → Nat} {n lim : Nat} (h : tc_C S n lim) : tc_J S n lim 0 tc_B0 none := by
  have hP : tc_Phi S n lim 0 0 1 = tc_opt S n lim := by
    unfold tc_Phi tc_opt
    simp
  refine ⟨?_, ?_, Or.inr ⟨0, 1, 0, Nat.zero_le _, by omega, rfl, ?_⟩⟩
  · intro j k c hj hk hc
    unfold tc_B0 at hc
    split at hc
    · rename_i e
      have e1 : j = 0 := by omega
      have e2 : k = 1 := by omega
      subst e1
      subst e2
      cases hc
      refine ⟨by have := h.1; omega, by omega, by have := h.1; omega, ?_, Nat.zero_le _⟩
      rw [hP]
      omega
    · cases hc
  · intro v hv
    cases hv
  · rw [hP]
    omega
theorem tc_J_start {S : Nat → Nat} {n lim d : Nat} {B : Nat → Option Nat} {ans : Option Nat} (h : tc_C S n lim) (hd : d ≤ lim) (hJ : tc_J S n lim d B ans) : tc_I S n lim d B (fun _ => none) ans 0 0 0 := by
  obtain ⟨h1, h2, h3⟩ := hJ
  refine ⟨h1, (fun j k c _ _ hc => absurd hc (by simp)), h2, ?_⟩
  rcases h3 with h3 | ⟨j, k, c, hj, hk, hc, hv⟩
  · exact Or.inl h3
  · right; right
    obtain ⟨g1, g2, g3, -, -⟩ := h1 j k c hj hk hc
    have hlt := tc_opt_lt h
    unfold tc_Phi at hv
    rw [show lim + 1 - d = (lim - d) + 1 by omega] at hv
    have hE : tc_E S ((lim - d) + 1) (n - j) k = tc_b (tc_E S (lim - d)) S (n - j) k := rfl
    rw [hE] at hv
    unfold tc_b at hv
    split at hv
    · rename_i e
      exact ⟨j, k, k, by unfold tc_un; omega, c, hc, hj, hk, Nat.le_refl _, Or.inl ⟨by omega, by omega⟩⟩
    · rename_i e
      obtain ⟨u, hu, a1, a2⟩ := tc_bl_att (c := tc_E S (lim - d)) (S := S) (left := n - j) (nodes := k) (t := k) (by omega)
      refine ⟨j, k, u, by unfold tc_un; omega, c, hc, hj, hk, by omega, Or.inr ⟨by omega, hu, ?_⟩⟩
      have hm := h.2.2.2.2.1 (n - j - u) (n - j) (by omega)
      have hsum : d * (S (n - j) - S (n - j - u)) + d * S (n - j - u) = d * S (n - j) := by
        rw [← Nat.mul_add, Nat.sub_add_cancel hm]
      unfold tc_Phi
      rw [show lim + 1 - (d + 1) = lim - d by omega, Nat.add_mul d 1, Nat.one_mul]
      rw [a2] at hv
      unfold tc_v at hv
      rw [show n - (j + u) = n - j - u by omega]
      omega
theorem tc_un_succ {J K A j k a : Nat} (h : tc_un J K A j k a) : (j = J ∧ k = K ∧ a = A) ∨ tc_un J K (A + 1) j k a := by
  unfold tc_un at *
  omega
/-- the best way is kept over one step -/
theorem tc_keep {S : Nat → Nat} {n lim d : Nat} {B X X' : Nat → Option Nat} {ans ans' : Option Nat} {j k a : Nat} (h : tc_got S n lim ans ∨ tc_hit S n lim (d + 1) X ∨ ∃ j1 k1 a1, tc_un j k a j1 k1 a1 ∧ tc_it S n lim d B j1 k1 a1)
    (h1 : tc_got S n lim ans → tc_got S n lim ans') (h2 : tc_hit S n lim (d + 1) X → tc_hit S n lim (d + 1) X') (h3 : tc_it S n lim d B j k a → tc_got S n lim ans' ∨ tc_hit S n lim (d + 1) X') : tc_got S n lim ans' ∨ tc_hit S n lim (d + 1) X' ∨ ∃ j1 k1 a1, tc_un j k (a + 1) j1 k1 a1 ∧ tc_it S n lim d B j1 k1 a1 := by
  rcases h with h | h | ⟨j1, k1, a1, u, it⟩
  · exact Or.inl (h1 h)
  · exact Or.inr (Or.inl (h2 h))
  · rcases tc_un_succ u with ⟨e1, e2, e3⟩ | u
    · subst e1; subst e2; subst e3
      rcases h3 it with q | q
      · exact Or.inl q
      · exact Or.inr (Or.inl q)
    · exact Or.inr (Or.inr ⟨j1, k1, a1, u, it⟩)
theorem tc_more_le {S : Nat → Nat} {n lim d j a : Nat} (h : tc_C S n lim) (hd : d ≤ lim) : d * (S (n - j) - S (n - j - a)) ≤ tc_M := by
  have h1 := h.2.2.2.2.1 (n - j) n (by omega)
  have h2 := h.2.2.2.2.2.1
  have h3 := h.2.2.1
  have h4 : d * (S (n - j) - S (n - j - a)) ≤ 15 * 34359738368 := Nat.mul_le_mul (by omega) (by omega)
  have h5 : (15 * 34359738368 : Nat) ≤ tc_M := by decide
  omega
theorem tc_I_c {S : Nat → Nat} {n lim d : Nat} {B X : Nat → Option Nat} {ans : Option Nat} {J K A j k c : Nat} (h : tc_C S n lim) (hd : d ≤ lim) (hI : tc_I S n lim d B X ans J K A) (hj : j ≤ n) (hk : k ≤ 16) (hc : B (17 * j + k) = some c) : c ≤ 15 * tc_M := by
  obtain ⟨-, -, -, -, g⟩ := hI.1 j k c hj hk hc
  have := h.2.2.1
  exact Nat.le_trans g (Nat.mul_le_mul_right _ (by omega))
/-- all letters have their codes -/
theorem tc_I_ans {S : Nat → Nat} {n lim d : Nat} {B X : Nat → Option Nat} {ans : Option Nat} {j k a c : Nat} (h : tc_C S n lim) (hd : d ≤ lim) (hI : tc_I S n lim d B X ans j k a) (hk : k ≤ 16) (hak : a ≤ k) (hja : j + a = n) (hc : B (17 * j + k) = some c) :
    tc_opt S n lim ≤ c + d * (S (n - j) - S (n - j - a)) := by
  obtain ⟨h1, h2, h3, h4⟩ := hI
  obtain ⟨g1, g2, g3, g4, g5⟩ := h1 j k c (by omega) hk hc
  have e0 : n - j - a = 0 := by omega
  rw [e0, h.2.2.2.1, Nat.sub_zero]
  unfold tc_Phi at g4
  rw [show lim + 1 - d = (lim - d) + 1 by omega] at g4
  have hE : tc_E S ((lim - d) + 1) (n - j) k = tc_b (tc_E S (lim - d)) S (n - j) k := rfl
  rw [hE] at g4
  unfold tc_b at g4
  rw [if_pos (by omega)] at g4
  omega
theorem tc_I_ans1 {S : Nat → Nat} {n lim d : Nat} {B X : Nat → Option Nat} {ans : Option Nat} {j k a c : Nat} (h : tc_C S n lim) (hd : d ≤ lim) (hI : tc_I S n lim d B X ans j k a) (hk : k ≤ 16) (hak : a ≤ k) (hja : j + a = n) (hc : B (17 * j + k) = some c) (hn : ∀ v, ans = some v → c + d * (S (n - j) - S (n - j - a)) < v) :
    tc_I S n lim d B X (some (c + d * (S (n - j) - S (n - j - a)))) j k (a + 1) := by
  have h0 := tc_I_ans h hd hI hk hak hja hc
  have hc15 := tc_I_c h hd hI (by omega) hk hc
  have hm := tc_more_le (j := j) (a := a) h hd
  obtain ⟨h1, h2, h3, h4⟩ := hI
  refine ⟨h1, h2, fun v hv => ?_, tc_keep h4 (fun ⟨v, e, hv⟩ => ⟨_, rfl, ?_⟩) (fun q => q) (fun ⟨c', e, _, _, _, it⟩ => Or.inl ⟨_, rfl, ?_⟩)⟩
  · cases hv
    exact ⟨h0, by omega⟩
  · have := hn v e
    omega
  · rw [hc] at e
    cases e
    rcases it with ⟨-, it⟩ | ⟨q, -⟩
    · have e0 : n - j - a = 0 := by omega
      rw [e0, h.2.2.2.1, Nat.sub_zero]
      exact it
    · omega
theorem tc_I_ans2 {S : Nat → Nat} {n lim d : Nat} {B X : Nat → Option Nat} {ans : Option Nat} {j k a c v : Nat} (h : tc_C S n lim) (hd : d ≤ lim) (hI : tc_I S n lim d B X ans j k a) (hja : j + a = n) (hc : B (17 * j + k) = some c) (hv : ans = some v) (hle : v ≤ c + d * (S (n - j) - S (n - j - a))) :
    tc_I S n lim d B X ans j k (a + 1) := by
  obtain ⟨h1, h2, h3, h4⟩ := hI
  refine ⟨h1, h2, h3, tc_keep h4 (fun q => q) (fun q => q) (fun ⟨c', e, _, _, _, it⟩ => Or.inl ⟨v, hv, ?_⟩)⟩
  rw [hc] at e
  cases e
  rcases it with ⟨-, it⟩ | ⟨q, -⟩
  · have e0 : n - j - a = 0 := by omega
    rw [e0, h.2.2.2.1, Nat.sub_zero] at hle
    omega
  · omega
/-- some go deeper -/
theorem tc_I_nx {S : Nat → Nat} {n lim d : Nat} {B X : Nat → Option Nat} {ans : Option Nat} {j k a c : Nat} (h : tc_C S n lim) (hd : d ≤ lim) (hI : tc_I S n lim d B X ans j k a) (hk : k ≤ 16) (hak : a < k) (hja : j + a < n) (hc : B (17 * j + k) = some c) :
    tc_opt S n lim ≤ c + d * (S (n - j) - S (n - j - a)) + tc_Phi S n lim (d + 1) (j + a) (min (2 * (k - a)) (n - j - a)) := by
  obtain ⟨h1, h2, h3, h4⟩ := hI
  obtain ⟨g1, g2, g3, g4, g5⟩ := h1 j k c (by omega) hk hc
  have hm := h.2.2.2.2.1 (n - j - a) (n - j) (by omega)
  have hsum : d * (S (n - j) - S (n - j - a)) + d * S (n - j - a) = d * S (n - j) := by
    rw [← Nat.mul_add, Nat.sub_add_cancel hm]
  unfold tc_Phi at g4 ⊢
  rw [show lim + 1 - d = (lim - d) + 1 by omega] at g4
  have hE : tc_E S ((lim - d) + 1) (n - j) k = tc_b (tc_E S (lim - d)) S (n - j) k := rfl
  rw [hE] at g4
  rw [show lim + 1 - (d + 1) = lim - d by omega, show n - (j + a) = n - j - a by omega, Nat.add_mul d 1, Nat.one_mul]
  unfold tc_b at g4
  split at g4
  · omega
  · have := tc_bl_le (c := tc_E S (lim - d)) (S := S) (left := n - j) (nodes := k) (t := k) (u := a) hak
    unfold tc_v at this
    omega
def tc_upo (X : Nat → Option Nat) (p v : Nat) : Nat → Option Nat := fun q => if q = p then some v else X q
theorem tc_I_nx1 {S : Nat → Nat} {n lim d : Nat} {B X : Nat → Option Nat} {ans : Option Nat} {j k a c o : Nat} (h : tc_C S n lim) (hd : d ≤ lim) (hI : tc_I S n lim d B X ans j k a) (hk : k ≤ 16) (hak : a < k) (hja : j + a < n) (hc : B (17 * j + k) = some c) (ho : o = min (2 * (k - a)) (n - j - a)) (hn : ∀ v, X (17 * (j + a) + o) = some v → c + d * (S (n - j) - S (n - j - a)) < v) :
    tc_I S n lim d B (tc_upo X (17 * (j + a) + o) (c + d * (S (n - j) - S (n - j - a)))) ans j k (a + 1) := by
  have h0 := tc_I_nx h hd hI hk hak hja hc
  have hm := tc_more_le (j := j) (a := a) h hd
  rw [← ho] at h0
  have ho2 : o ≤ 16 ∧ 0 < o ∧ o ≤ n - j - a := by have := h.2.1; omega
  obtain ⟨h1, h2, h3, h4⟩ := hI
  obtain ⟨-, -, -, -, g5⟩ := h1 j k c (by omega) hk hc
  have hb : c + d * (S (n - j) - S (n - j - a)) ≤ (d + 1) * tc_M := by
    rw [Nat.add_mul, Nat.one_mul]
    omega
  refine ⟨h1, ?_, h3, tc_keep h4 (fun q => q) ?_ ?_⟩
  · intro j1 k1 c1 hj1 hk1 hc1
    unfold tc_upo at hc1
    split at hc1
    · rename_i e
      have e1 : j1 = j + a := by omega
      have e2 : k1 = o := by omega
      subst e1
      subst e2
      cases hc1
      exact ⟨hja, ho2.2.1, by omega, h0, hb⟩
    · exact h2 j1 k1 c1 hj1 hk1 hc1
  · rintro ⟨j1, k1, c1, hj1, hk1, hc1, hv⟩
    by_cases e : 17 * j1 + k1 = 17 * (j + a) + o
    · have e1 : j1 = j + a := by omega
      have e2 : k1 = o := by omega
      subst e1
      subst e2
      refine ⟨j + a, k1, _, hj1, hk1, if_pos rfl, ?_⟩
      have := hn c1 hc1
      omega
    · exact ⟨j1, k1, c1, hj1, hk1, (if_neg e).trans hc1, hv⟩
  · rintro ⟨c', e, -, -, -, it⟩
    rw [hc] at e
    cases e
    right
    rcases it with ⟨q, -⟩ | ⟨-, -, it⟩
    · omega
    · rw [← ho] at it
      exact ⟨j + a, o, _, by omega, ho2.1, if_pos rfl, it⟩
theorem tc_I_nx2 {S : Nat → Nat} {n lim d : Nat} {B X : Nat → Option Nat} {ans : Option Nat} {j k a c o v : Nat} (h : tc_C S n lim) (hI : tc_I S n lim d B X ans j k a) (hk : k ≤ 16) (hak : a < k) (hja : j + a < n) (hc : B (17 * j + k) = some c) (ho : o = min (2 * (k - a)) (n - j - a)) (hv : X (17 * (j + a) + o) = some v) (hle : v ≤ c + d * (S (n - j) - S (n - j - a))) :
    tc_I S n lim d B X ans j k (a + 1) := by
  have ho2 : o ≤ 16 ∧ 0 < o ∧ o ≤ n - j - a := by have := h.2.1; omega
  obtain ⟨h1, h2, h3, h4⟩ := hI
  refine ⟨h1, h2, h3, tc_keep h4 (fun q => q) (fun q => q) ?_⟩
  rintro ⟨c', e, -, -, -, it⟩
  rw [hc] at e
  cases e
  right
  rcases it with ⟨q, -⟩ | ⟨-, -, it⟩
  · omega
  · rw [← ho] at it
    exact ⟨j + a, o, v, by omega, ho2.1, hv, by omega⟩
theorem tc_I_no {S : Nat → Nat} {n lim d : Nat} {B X : Nat → Option Nat} {ans : Option Nat} {j k a : Nat} (hI : tc_I S n lim d B X ans j k a) (hak : k ≤ a) (hja : j + a < n) : tc_I S n lim d B X ans j k (a + 1) := by
  obtain ⟨h1, h2, h3, h4⟩ := hI
  refine ⟨h1, h2, h3, tc_keep h4 (fun q => q) (fun q => q) ?_⟩
  rintro ⟨c', e, -, -, -, it⟩
  omega
theorem tc_I_move {S : Nat → Nat} {n lim d : Nat} {B X : Nat → Option Nat} {ans : Option Nat} {J K A J' K' A' : Nat} (hI : tc_I S n lim d B X ans J K A) (hm : ∀ j k a, tc_un J K A j k a → tc_it S n lim d B j k a → tc_un J' K' A' j k a) : tc_I S n lim d B X ans J' K' A' := by
  obtain ⟨h1, h2, h3, h4⟩ := hI
  refine ⟨h1, h2, h3, ?_⟩
  rcases h4 with h | h | ⟨j1, k1, a1, u, it⟩
  · exact Or.inl h
  · exact Or.inr (Or.inl h)
  · exact Or.inr (Or.inr ⟨j1, k1, a1, hm _ _ _ u it, it⟩)
theorem tc_I_none {S : Nat → Nat} {n lim d : Nat} {B X : Nat → Option Nat} {ans : Option Nat} {j k : Nat} (hI : tc_I S n lim d B X ans j k 0) (hc : B (17 * j + k) = none) : tc_I S n lim d B X ans j (k + 1) 0 := by
  refine tc_I_move hI fun j1 k1 a1 u it => ?_
  obtain ⟨c, e, -⟩ := it
  unfold tc_un at *
  by_cases q : j1 = j ∧ k1 = k
  · rw [q.1, q.2, hc] at e
    cases e
  · omega
theorem tc_I_outk {S : Nat → Nat} {n lim d : Nat} {B X : Nat → Option Nat} {ans : Option Nat} {j k a : Nat} (hI : tc_I S n lim d B X ans j k a) (ha : k < a ∨ n < j + a) : tc_I S n lim d B X ans j (k + 1) 0 := by
  refine tc_I_move hI fun j1 k1 a1 u it => ?_
  obtain ⟨c, e, q1, q2, q3, q4⟩ := it
  unfold tc_un at *
  omega
theorem tc_I_outj {S : Nat → Nat} {n lim d : Nat} {B X : Nat → Option Nat} {ans : Option Nat} {j k : Nat} (hI : tc_I S n lim d B X ans j k 0) (hk : 16 < k) : tc_I S n lim d B X ans (j + 1) 0 0 := by
  refine tc_I_move hI fun j1 k1 a1 u it => ?_
  obtain ⟨c, e, q1, q2, q3, q4⟩ := it
  unfold tc_un at *
  omega
theorem tc_I_end {S : Nat → Nat} {n lim d : Nat} {B X : Nat → Option Nat} {ans : Option Nat} {j : Nat} (hI : tc_I S n lim d B X ans j 0 0) (hj : n < j) : tc_J S n lim (d + 1) X ans := by
  obtain ⟨h1, h2, h3, h4⟩ := hI
  refine ⟨h2, h3, ?_⟩
  rcases h4 with h | h | ⟨j1, k1, a1, u, it⟩
  · exact Or.inl h
  · exact Or.inr h
  · obtain ⟨c, e, q1, q2, q3, q4⟩ := it
    unfold tc_un at u
    omega
theorem tc_J_last {S : Nat → Nat} {n lim d : Nat} {B : Nat → Option Nat} {ans : Option Nat} (h : tc_C S n lim) (hd : d = lim + 1) (hJ : tc_J S n lim d B ans) : ans = some (tc_opt S n lim) := by
  obtain ⟨h1, h2, h3⟩ := hJ
  have hlt := tc_opt_lt h
  rcases h3 with ⟨v, e, hv⟩ | ⟨j, k, c, hj, hk, hc, hv⟩
  · have := (h2 v e).1
    rw [e, show v = tc_opt S n lim by omega]
  · unfold tc_Phi at hv
    rw [hd, Nat.sub_self] at hv
    have : tc_E S 0 (n - j) k = tc_NEV := rfl
    omega
end
section
/-! HELPER ROWS: the kit's rows over numbers nI n, and the classes -/
abbrev vwCl : List vw_C := [(RX0, TX0, 6), (RX1, TX1, 2), (RX2, TX2, 1), (RX3, TX3, 6)]
abbrev tA (dA dL : ClassId) : List (ClassId × FieldType) := [(dA, .int), (dL, .long)]
def tc_oL : Option Nat → Int64
  | none => -1
  | some v => lN v
theorem tc_lN_nneg {v : Nat} (h : v < 2 ^ 63) : ¬ lN v < 0 := by
  have := pk_lLT (a := v) (b := 0) h (by decide)
  intro q
  exact absurd (this.mp q) (by omega)
theorem tc_m1 : (-1 : Int64) < 0 := by decide
section TCH
variable {p : Program} {l : Launch} {e : Env} {R : Room} {s : State} {m : MethodId} {args : Array Value} {below : List Frame} {meth : Method} {c : Code} {H : Heap} {locs : List Loc} {cells slots : Nat} {Q : State → Prop}
variable {cc : ByteArray} {pc : Nat} {ls : Array Slot} {rest : List Value} {D : va_G} {cl : List vw_C} {A : Nat → Prop} {a : Nat} {tys : List (ClassId × FieldType)} {ws : va_W} {H0 : Heap}
theorem tc_toi {x : Int32} (v : Int32) (h : x = v) (k : W p l e R s m args below meth c H locs cells slots Q (F0 m pc ls (.int v :: rest))) : W p l e R s m args below meth c H locs cells slots Q (F0 m pc ls (.int x :: rest)) := by rw [h]; exact k
theorem tc_tol {x : Int64} (v : Int64) (h : x = v) (k : W p l e R s m args below meth c H locs cells slots Q (F0 m pc ls (.long v :: rest))) : W p l e R s m args below meth c H locs cells slots Q (F0 m pc ls (.long x :: rest)) := by rw [h]; exact k
theorem tc_iadd (hexec : p.tables.exec = Jvm.exec) (hb : c.code = cc) {x y : Nat} (hdg : decode cc pc = .ok (.iadd, 1)) (k : W p l e R s m args below meth c H locs cells slots Q (F0 m (pc + 1) ls (.int (nI (x + y)) :: rest))) : W p l e R s m args below meth c H locs cells slots Q (F0 m pc ls (.int (nI y) :: .int (nI x) :: rest)) := lv_iadd hexec hb hdg (tc_toi _ (nI_add x y) k)
theorem tc_isub (hexec : p.tables.exec = Jvm.exec) (hb : c.code = cc) {x y : Nat} (h : y ≤ x) (hdg : decode cc pc = .ok (.isub, 1)) (k : W p l e R s m args below meth c H locs cells slots Q (F0 m (pc + 1) ls (.int (nI (x - y)) :: rest))) : W p l e R s m args below meth c H locs cells slots Q (F0 m pc ls (.int (nI y) :: .int (nI x) :: rest)) := lv_isub hexec hb hdg (tc_toi _ (pk_sub h) k)
theorem tc_imul (hexec : p.tables.exec = Jvm.exec) (hb : c.code = cc) {x y : Nat} (hdg : decode cc pc = .ok (.imul, 1)) (k : W p l e R s m args below meth c H locs cells slots Q (F0 m (pc + 1) ls (.int (nI (x * y)) :: rest))) : W p l e R s m args below meth c H locs cells slots Q (F0 m pc ls (.int (nI y) :: .int (nI x) :: rest)) := lv_imul hexec hb hdg (tc_toi _ (pk_mul x y) k)
theorem tc_irem (hexec : p.tables.exec = Jvm.exec) (hb : c.code = cc) {x y : Nat} (hx : x < 2 ^ 31) (h0 : 0 < y) (hy : y < 2 ^ 31) (hdg : decode cc pc = .ok (.irem, 1)) (k : W p l e R s m args below meth c H locs cells slots Q (F0 m (pc + 1) ls (.int (nI (x % y)) :: rest))) : W p l e R s m args below meth c H locs cells slots Q (F0 m pc ls (.int (nI y) :: .int (nI x) :: rest)) := lv_irem hexec hb hdg (nI_ne0 h0 hy) (tc_toi _ (pk_rem hx h0 hy) k)
theorem tc_ladd (hexec : p.tables.exec = Jvm.exec) (hb : c.code = cc) {x y : Nat} (hdg : decode cc pc = .ok (.ladd, 1)) (k : W p l e R s m args below meth c H locs cells slots Q (F0 m (pc + 1) ls (.long (lN (x + y)) :: rest))) : W p l e R s m args below meth c H locs cells slots Q (F0 m pc ls (.long (lN y) :: .long (lN x) :: rest)) := lv_ladd hexec hb hdg (tc_tol _ (lN_add x y) k)
theorem tc_lmul (hexec : p.tables.exec = Jvm.exec) (hb : c.code = cc) {x y : Nat} (hdg : decode cc pc = .ok (.lmul, 1)) (k : W p l e R s m args below meth c H locs cells slots Q (F0 m (pc + 1) ls (.long (lN (x * y)) :: rest))) : W p l e R s m args below meth c H locs cells slots Q (F0 m pc ls (.long (lN y) :: .long (lN x) :: rest)) := lv_lmul hexec hb hdg (tc_tol _ (lN_mul x y) k)
theorem tc_i2l (hexec : p.tables.exec = Jvm.exec) (hb : c.code = cc) {x : Nat} (h : x < 2 ^ 31) (hdg : decode cc pc = .ok (.i2l, 1)) (k : W p l e R s m args below meth c H locs cells slots Q (F0 m (pc + 1) ls (.long (lN x) :: rest))) : W p l e R s m args below meth c H locs cells slots Q (F0 m pc ls (.int (nI x) :: rest)) := lv_i2l hexec hb hdg (nI_l h) k
theorem tc_icmp_ge (hexec : p.tables.exec = Jvm.exec) (hb : c.code = cc) {x y : Nat} {off : Int} (tgt : Nat) (hdg : decode cc pc = .ok (.if_icmp .ge off, 3)) (ht : (pc : Int) + off = (tgt : Int)) (hx : x < 2 ^ 31) (hy : y < 2 ^ 31)
    (kt : y ≤ x → W p l e R s m args below meth c H locs cells slots Q (F0 m tgt ls rest)) (kf : x < y → W p l e R s m args below meth c H locs cells slots Q (F0 m (pc + 3) ls rest)) : W p l e R s m args below meth c H locs cells slots Q (F0 m pc ls (.int (nI y) :: .int (nI x) :: rest)) :=
  lv_icmp_ge hexec hb hdg ht (fun h => kt ((nI_leI hy hx).mp h)) (fun h => kf (Nat.not_le.mp fun q => h ((nI_leI hy hx).mpr q)))
theorem tc_icmp_gt (hexec : p.tables.exec = Jvm.exec) (hb : c.code = cc) {x y : Nat} {off : Int} (tgt : Nat) (hdg : decode cc pc = .ok (.if_icmp .gt off, 3)) (ht : (pc : Int) + off = (tgt : Int)) (hx : x < 2 ^ 31) (hy : y < 2 ^ 31)
    (kt : y < x → W p l e R s m args below meth c H locs cells slots Q (F0 m tgt ls rest)) (kf : x ≤ y → W p l e R s m args below meth c H locs cells slots Q (F0 m (pc + 3) ls rest)) : W p l e R s m args below meth c H locs cells slots Q (F0 m pc ls (.int (nI y) :: .int (nI x) :: rest)) :=
  lv_icmp_gt hexec hb hdg ht (fun h => kt ((nI_ltI hy hx).mp h)) (fun h => kf (Nat.not_lt.mp fun q => h ((nI_ltI hy hx).mpr q)))
theorem tc_icmp_le (hexec : p.tables.exec = Jvm.exec) (hb : c.code = cc) {x y : Nat} {off : Int} (tgt : Nat) (hdg : decode cc pc = .ok (.if_icmp .le off, 3)) (ht : (pc : Int) + off = (tgt : Int)) (hx : x < 2 ^ 31) (hy : y < 2 ^ 31)
    (kt : x ≤ y → W p l e R s m args below meth c H locs cells slots Q (F0 m tgt ls rest)) (kf : y < x → W p l e R s m args below meth c H locs cells slots Q (F0 m (pc + 3) ls rest)) : W p l e R s m args below meth c H locs cells slots Q (F0 m pc ls (.int (nI y) :: .int (nI x) :: rest)) :=
  lv_icmp_le hexec hb hdg ht (fun h => kt ((nI_leI hx hy).mp h)) (fun h => kf (Nat.not_le.mp fun q => h ((nI_leI hx hy).mpr q)))
theorem tc_icmp_ne (hexec : p.tables.exec = Jvm.exec) (hb : c.code = cc) {x y : Nat} {off : Int} (tgt : Nat) (hdg : decode cc pc = .ok (.if_icmp .ne off, 3)) (ht : (pc : Int) + off = (tgt : Int)) (hx : x < 2 ^ 31) (hy : y < 2 ^ 31)
    (kt : x ≠ y → W p l e R s m args below meth c H locs cells slots Q (F0 m tgt ls rest)) (kf : x = y → W p l e R s m args below meth c H locs cells slots Q (F0 m (pc + 3) ls rest)) : W p l e R s m args below meth c H locs cells slots Q (F0 m pc ls (.int (nI y) :: .int (nI x) :: rest)) :=
  lv_icmp_ne hexec hb hdg ht (fun h => kt (fun q => h ((nI_eq hx hy).mpr q))) (fun h => kf ((nI_eq hx hy).mp h))
theorem tc_if_le (hexec : p.tables.exec = Jvm.exec) (hb : c.code = cc) {x : Nat} {off : Int} (tgt : Nat) (hdg : decode cc pc = .ok (.ifCond .le off, 3)) (ht : (pc : Int) + off = (tgt : Int)) (hx : x < 2 ^ 31)
    (kt : x = 0 → W p l e R s m args below meth c H locs cells slots Q (F0 m tgt ls rest)) (kf : 0 < x → W p l e R s m args below meth c H locs cells slots Q (F0 m (pc + 3) ls rest)) : W p l e R s m args below meth c H locs cells slots Q (F0 m pc ls (.int (nI x) :: rest)) :=
  lv_if_le hexec hb hdg ht (fun h => kt (Nat.le_zero.mp ((nI_leI hx (by decide)).mp h))) (fun h => kf (Nat.pos_of_ne_zero fun q => h (by rw [q]; exact nI_pos' (n := 0) (by decide))))
theorem tc_if_ne (hexec : p.tables.exec = Jvm.exec) (hb : c.code = cc) {x : Nat} {off : Int} (tgt : Nat) (hdg : decode cc pc = .ok (.ifCond .ne off, 3)) (ht : (pc : Int) + off = (tgt : Int)) (hx : x < 2 ^ 31)
    (kt : 0 < x → W p l e R s m args below meth c H locs cells slots Q (F0 m tgt ls rest)) (kf : x = 0 → W p l e R s m args below meth c H locs cells slots Q (F0 m (pc + 3) ls rest)) : W p l e R s m args below meth c H locs cells slots Q (F0 m pc ls (.int (nI x) :: rest)) :=
  lv_if_ne hexec hb hdg ht (fun h => kt (Nat.pos_of_ne_zero fun q => h (by rw [q]; rfl))) (fun h => kf ((nI_eq hx (by decide)).mp h))
theorem tc_lcmp_lt (hexec : p.tables.exec = Jvm.exec) (hb : c.code = cc) {x y : Int64} {off : Int} (tgt : Nat) (hd1 : decode cc pc = .ok (.lcmp, 1)) (hd2 : decode cc (pc + 1) = .ok (.ifCond .lt off, 3)) (ht : ((pc + 1 : Nat) : Int) + off = (tgt : Int))
    (kt : x < y → W p l e R s m args below meth c H locs cells slots Q (F0 m tgt ls rest)) (kf : ¬ x < y → W p l e R s m args below meth c H locs cells slots Q (F0 m (pc + 1 + 3) ls rest)) : W p l e R s m args below meth c H locs cells slots Q (F0 m pc ls (.long y :: .long x :: rest)) :=
  W.lcmp hexec hb hd1 (lv_if_lt hexec hb hd2 ht (fun h => kt ((lg_cmp_lt x y).mp h)) (fun h => kf (fun q => h ((lg_cmp_lt x y).mpr q))))
theorem tc_lcmp_ge (hexec : p.tables.exec = Jvm.exec) (hb : c.code = cc) {x y : Int64} {off : Int} (tgt : Nat) (hd1 : decode cc pc = .ok (.lcmp, 1)) (hd2 : decode cc (pc + 1) = .ok (.ifCond .ge off, 3)) (ht : ((pc + 1 : Nat) : Int) + off = (tgt : Int))
    (kt : y ≤ x → W p l e R s m args below meth c H locs cells slots Q (F0 m tgt ls rest)) (kf : ¬ y ≤ x → W p l e R s m args below meth c H locs cells slots Q (F0 m (pc + 1 + 3) ls rest)) : W p l e R s m args below meth c H locs cells slots Q (F0 m pc ls (.long y :: .long x :: rest)) :=
  W.lcmp hexec hb hd1 (lv_if_ge hexec hb hd2 ht (fun h => kt ((lg_cmp_ge x y).mp h)) (fun h => kf (fun q => h ((lg_cmp_ge x y).mpr q))))
theorem tc_lcmp_eq (hexec : p.tables.exec = Jvm.exec) (hb : c.code = cc) {x y : Int64} {off : Int} (tgt : Nat) (hd1 : decode cc pc = .ok (.lcmp, 1)) (hd2 : decode cc (pc + 1) = .ok (.ifCond .eq off, 3)) (ht : ((pc + 1 : Nat) : Int) + off = (tgt : Int))
    (kt : x = y → W p l e R s m args below meth c H locs cells slots Q (F0 m tgt ls rest)) (kf : ¬ x = y → W p l e R s m args below meth c H locs cells slots Q (F0 m (pc + 1 + 3) ls rest)) : W p l e R s m args below meth c H locs cells slots Q (F0 m pc ls (.long y :: .long x :: rest)) :=
  W.lcmp hexec hb hd1 (lv_if_eq hexec hb hd2 ht (fun h => kt ((lg_cmp_eq x y).mp h)) (fun h => kf (fun q => h ((lg_cmp_eq x y).mpr q))))
theorem tc_iald (hexec : p.tables.exec = Jvm.exec) (hb : c.code = cc) (hK : va_K D cl tys s) (hP : va_P D cl ws H) (q0 t0 : Nat) {cA : ClassId} {n : Nat} {f : Nat → Int32} (ha : ws[q0]? = some (a, .inl (cA, n, .inl f))) (ht : tys[t0]? = some (cA, .int)) {k : Nat} (v : Int32) (hk : k < n) (hn : n < 2 ^ 31) (hv : f k = v) (hdg : decode cc pc = .ok (.iaload, 1))
    (kk : W p l e R s m args below meth c H locs cells slots Q (F0 m (pc + 1) ls (.int v :: rest))) : W p l e R s m args below meth c H locs cells slots Q (F0 m pc ls (.int (nI k) :: .ref a :: rest)) :=
  va_iald hexec hb hK hP q0 t0 ha ht (vp_in_nI hk hn) hdg (tc_toi _ (by rw [nI_clamp (Nat.lt_trans hk hn)]; exact hv) kk)
theorem tc_lald (hexec : p.tables.exec = Jvm.exec) (hb : c.code = cc) (hK : va_K D cl tys s) (hP : va_P D cl ws H) (q0 t0 : Nat) {cA : ClassId} {n : Nat} {f : Nat → Int64} (ha : ws[q0]? = some (a, .inl (cA, n, .inr (.inl f)))) (ht : tys[t0]? = some (cA, .long)) {k : Nat} (v : Int64) (hk : k < n) (hn : n < 2 ^ 31) (hv : f k = v) (hdg : decode cc pc = .ok (.laload, 1))
    (kk : W p l e R s m args below meth c H locs cells slots Q (F0 m (pc + 1) ls (.long v :: rest))) : W p l e R s m args below meth c H locs cells slots Q (F0 m pc ls (.int (nI k) :: .ref a :: rest)) :=
  va_lald hexec hb hK hP q0 t0 ha ht (vp_in_nI hk hn) hdg (tc_tol _ (by rw [nI_clamp (Nat.lt_trans hk hn)]; exact hv) kk)
theorem tc_iast (hexec : p.tables.exec = Jvm.exec) (hb : c.code = cc) (hK : va_K D cl tys s) (hP : va_P D cl ws H) (hD : va_D A ws) (hS : va_S A H0 H locs) (q0 t0 : Nat) {cA : ClassId} {n : Nat} {f : Nat → Int32} (ha : ws[q0]? = some (a, .inl (cA, n, .inl f))) (ht : tys[t0]? = some (cA, .int)) {k : Nat} {x : Int32} (hk : k < n) (hn : n < 2 ^ 31) (hdg : decode cc pc = .ok (.iastore, 1))
    (kk : ∀ (H1 : Heap) (locs1 : List Loc), va_P D cl (ws.set q0 (a, .inl (cA, n, .inl (upd f k x)))) H1 → va_D A (ws.set q0 (a, .inl (cA, n, .inl (upd f k x)))) → va_S A H0 H1 locs1 → W p l e R s m args below meth c H1 locs1 cells slots Q (F0 m (pc + 1) ls rest)) : W p l e R s m args below meth c H locs cells slots Q (F0 m pc ls (.int x :: .int (nI k) :: .ref a :: rest)) := by
  refine va_iast hexec hb hK hP hD hS q0 t0 ha ht (vp_in_nI hk hn) hdg ?_
  rw [nI_clamp (Nat.lt_trans hk hn)]
  exact kk
theorem tc_last (hexec : p.tables.exec = Jvm.exec) (hb : c.code = cc) (hK : va_K D cl tys s) (hP : va_P D cl ws H) (hD : va_D A ws) (hS : va_S A H0 H locs) (q0 t0 : Nat) {cA : ClassId} {n : Nat} {f : Nat → Int64} (ha : ws[q0]? = some (a, .inl (cA, n, .inr (.inl f)))) (ht : tys[t0]? = some (cA, .long)) {k : Nat} {x : Int64} (hk : k < n) (hn : n < 2 ^ 31) (hdg : decode cc pc = .ok (.lastore, 1))
    (kk : ∀ (H1 : Heap) (locs1 : List Loc), va_P D cl (ws.set q0 (a, .inl (cA, n, .inr (.inl (vp_updL f k x))))) H1 → va_D A (ws.set q0 (a, .inl (cA, n, .inr (.inl (vp_updL f k x))))) → va_S A H0 H1 locs1 → W p l e R s m args below meth c H1 locs1 cells slots Q (F0 m (pc + 1) ls rest)) : W p l e R s m args below meth c H locs cells slots Q (F0 m pc ls (.long x :: .int (nI k) :: .ref a :: rest)) := by
  refine va_last hexec hb hK hP hD hS q0 t0 ha ht (vp_in_nI hk hn) hdg ?_
  rw [nI_clamp (Nat.lt_trans hk hn)]
  exact kk
/-- a new array has the class of its like -/
theorem tc_same_i {dA dL cA : ClassId} (h : va_K D cl (tA dA dL ++ [(cA, .int)]) s) : cA = dA := by
  have h1 : s.vm.findClass _ = some cA := (h.2 2 (cA, .int) rfl).2
  have h2 : s.vm.findClass _ = some dA := (h.2 0 (dA, .int) rfl).2
  exact Option.some.inj (h1.symm.trans h2)
theorem tc_same_l {dA dL cA : ClassId} (h : va_K D cl (tA dA dL ++ [(cA, .long)]) s) : cA = dL := by
  have h1 : s.vm.findClass _ = some cA := (h.2 2 (cA, .long) rfl).2
  have h2 : s.vm.findClass _ = some dL := (h.2 1 (dL, .long) rfl).2
  exact Option.some.inj (h1.symm.trans h2)
/-- the classes of int[] and long[], out of the tables -/
theorem tc_arrays (hi : (Cond.arrayClass .int).before args s = true) (hl : (Cond.arrayClass .long).before args s = true) (hK : va_K D cl [] s) : ∃ dA dL : ClassId, va_K D cl (tA dA dL) s := by
  obtain ⟨cA, kA, comp, h1, h2, h3⟩ := Cond.arrayClass_spec hi
  obtain ⟨cL, kL, compL, g1, g2, g3⟩ := Cond.arrayClass_spec hl
  refine ⟨cA, cL, hK.1, fun k q hq => ?_⟩
  match k, hq with
  | 0, hq => cases hq; exact ⟨fun n z => ⟨fun k h => (by cases h), kA, h2, comp, h3⟩, h1⟩
  | 1, hq => cases hq; exact ⟨fun n z => ⟨fun k h => (by cases h), kL, g2, compL, g3⟩, g1⟩
  | k + 2, hq => simp [tA] at hq
end TCH
/-! contracts' starts and ends -/
def tc_B (D : va_G) (dA dL : ClassId) (A : Nat → Prop) (ws : va_W) (t : State) : Prop := va_P D vwCl ws t.heap ∧ va_K D vwCl (tA dA dL) t ∧ va_D A ws
def tc_Pre (D : va_G) (dA dL : ClassId) (ws : va_W) (sz : Nat) (U : State) : Prop := U.heap.size = sz ∧ va_P D vwCl ws U.heap ∧ va_K D vwCl (tA dA dL) U ∧ va_D (fun _ => True) ws
theorem tc_blind {D : va_G} {dA dL : ClassId} {ws : va_W} {sz : Nat} {av : List Value} : FrameBlind (va_Pc av (tc_Pre D dA dL ws sz)) := fun a U g mk q => by
  obtain ⟨q0, q1, qP, qK, qD⟩ := q
  exact ⟨q0, q1, qP, va_K.moved (u := U) (U := U.calling g mk a) (Vm.Alike.refl U.vm) qK, qD⟩
theorem tc_pre {D : va_G} {dA dL : ClassId} {ws : va_W} {av : List Value} {s : State} {H : Heap} {A : Nat → Prop} (hP : va_P D vwCl ws H) (hK : va_K D vwCl (tA dA dL) s) (hD : va_D A ws) : ∀ U : State, U.heap = H → s.WarmedH U.vm → va_Pc av (tc_Pre D dA dL ws H.size) av.toArray U :=
  fun U hU hW => ⟨rfl, by rw [hU], by rw [hU]; exact hP, va_K.moved hW.alike hK, hD.weaken (fun _ _ _ _ => trivial)⟩
theorem tc_end {D : va_G} {dA dL : ClassId} {ws : va_W} {s t : State} {H : Heap} {A : Nat → Prop} (hP : va_P D vwCl ws H) (hK : va_K D vwCl (tA dA dL) s) (hD : va_D A ws) (ht : t.heap = H) (hW : s.WarmedH t.vm) : tc_B D dA dL A ws t := ⟨by rw [ht]; exact hP, va_K.moved hW.alike hK, hD⟩
/-- what a walk stands on -/
def tc_X (p : Program) (s : State) (m : MethodId) (meth : Method) (c : Code) (args : Array Value) (cc : ByteArray) (nL : Nat) (own : String) (ret : Option FieldType) (A : Nat → Prop) : Prop := p.tables.exec = Jvm.exec ∧ c.code = cc ∧ meth.sig.returnType = ret ∧ c.maxLocals = nL ∧ s.vm.findClass own = some m.cls ∧ (∀ w ∈ lw_all, w.before args s = true) ∧ meth.locks = false ∧ (∀ q : Nat, s.heap.size ≤ q → A q)
/-- the world of a walk -/
def tc_w (s : State) (D : va_G) (A : Nat → Prop) (ws : va_W) (H : Heap) (locs : List Loc) : Prop := va_P D vwCl ws H ∧ va_D A ws ∧ va_S A s.heap H locs
end
section
/-! more helper rows: masks, shifts, least of two; fa_and and fa_mask began as rows of kit/laws/NUMBERS.to-paste -/
theorem fa_and (a b : Nat) : nI a &&& nI b = nI (a &&& b) := by
  apply Int32.toBitVec_inj.1
  show BitVec.ofNat 32 a &&& BitVec.ofNat 32 b = BitVec.ofNat 32 (a &&& b)
  apply BitVec.eq_of_getLsbD_eq
  intro i hi
  simp [hi]
theorem fa_mask (n k : Nat) : nI n &&& nI (2 ^ k - 1) = nI (n % 2 ^ k) := by rw [fa_and, Nat.and_two_pow_sub_one_eq_mod]
theorem tc_and31 (n : Nat) : nI n &&& nI 31 = nI (n % 32) := fa_mask n 5
theorem tc_and3 (n : Nat) : nI n &&& nI 3 = nI (n % 4) := fa_mask n 2
theorem tc_andM (n : Nat) : nI n &&& 2147483647 = nI (n % 2147483648) := fa_mask n 31
theorem tc_shl1 {k : Nat} (h : k < 16) : nI 1 <<< (nI k &&& 31) = nI (2 ^ k) := by
  have q : ∀ k : Fin 16, nI 1 <<< (nI k.val &&& 31) = nI (2 ^ k.val) := by decide
  exact q ⟨k, h⟩
theorem tc_min_i {k i : Nat} (hk : k < 2 ^ 31) (hi : i < 2 ^ 31) : (if nI i < nI k then nI i else nI k) = nI (min k i) := by
  by_cases q : i < k
  · rw [if_pos ((nI_ltI hi hk).mpr q), Nat.min_eq_right (by omega)]
  · rw [if_neg (fun z => q ((nI_ltI hi hk).mp z)), Nat.min_eq_left (by omega)]
theorem tc_min_l {k i : Nat} (hk : k < 2 ^ 63) (hi : i < 2 ^ 63) : (if lN i < lN k then lN i else lN k) = lN (min k i) := by
  by_cases q : i < k
  · rw [if_pos ((pk_lLT hi hk).mpr q), Nat.min_eq_right (by omega)]
  · rw [if_neg (fun z => q ((pk_lLT hi hk).mp z)), Nat.min_eq_left (by omega)]
theorem tc_nI_of (x : Int32) : ∃ n : Nat, x = nI n := ⟨x.toBitVec.toNat, by
  apply Int32.toBitVec_inj.1
  show x.toBitVec = BitVec.ofNat 32 x.toBitVec.toNat
  simp⟩
def tc_let (x : Nat) : Nat := 2 + x % 2147483648 % 15
def tc_lim (x : Nat) : Nat := x % 2147483648 % 16
def tc_wset (f : Nat → Int32) (i a b c d : Nat) : Nat → Int32 := upd (upd (upd (upd f (i % 32) (nI (a % 2147483648))) ((i + 1) % 32) (nI (b % 2147483648))) ((i + 2) % 32) (nI (c % 2147483648))) ((i + 3) % 32) (nI (d % 2147483648))
theorem tc_new_i (cA : ClassId) (n : Nat) : vp_cell cA (n, .inl (fun _ => 0)) = arrV cA n (fun _ => defaultValue .int) := by
  rw [vp_cell_i]; rfl
theorem tc_new_l (cA : ClassId) (n : Nat) : vp_cell cA (n, .inr (.inl (fun _ => 0))) = arrV cA n (fun _ => defaultValue .long) := by
  rw [vp_cell_l]; rfl
end
section
/-! LEAVES: Level.put, Level.get, Sums.least; letters, limit, weight of both -/
/-! Level.put: one place -/
set_option maxHeartbeats 4000000 in
set_option maxRecDepth 100000 in
theorem met_put (l : Launch) (D : va_G) (dA dL : ClassId) (h0 h1 i k : Nat) (g : Nat → Int64) (v : Int64) (sz : Nat) (hi : i * 33 + k < 1089) : Met l yX2_put (ws_ yX2_put cX2_put 5 none) ({ frames := 0, cells := 0, slots := 0, locals := 0 }) (va_Pc [.ref h0, .int (nI i), .int (nI k), .long v] (tc_Pre D dA dL [(h0, .inr (2, [.ref h1])), (h1, .inl (dL, 1089, .inr (.inl g)))] sz)) (va_Qv (fun _ : Unit => True) (fun _ t => tc_B D dA dL (va_A [(h0, .inr (2, [.ref h1])), (h1, .inl (dL, 1089, .inr (.inl g)))] sz) [(h0, .inr (2, [.ref h1])), (h1, .inl (dL, 1089, .inr (.inl (vp_updL g (i * 33 + k) v))))] t) (va_A [(h0, .inr (2, [.ref h1])), (h1, .inl (dL, 1089, .inr (.inl g)))] sz)) 0 0 (va_A [(h0, .inr (2, [.ref h1])), (h1, .inl (dL, 1089, .inr (.inl g)))] sz) := by
  refine Met.ofW (cc := cX2_put) (maxL := 5) (ret := none) (by decide) rfl ?_
  intro p e s m args below meth c s₁ B hml hv
  obtain ⟨rfl, hsz, hP, hK, hD0⟩ := hv
  have hx := B.exec
  have hb := B.bytes
  have hr := B.returns
  have hts := atoms_spec (ws := ws_ yX2_put cX2_put 5 none) B.pre
  have hts : ∀ w ∈ lw_all, w.before _ s = true := fun w h => hts w (List.mem_cons_of_mem _ h)
  have hown : s.vm.findClass RX2 = some m.cls := findClass_of_methodNamed B.named
  have hlocks := B.notSynchronized
  subst hsz
  have hD := hD0.self (sz := s.heap.size)
  generalize hAe : va_A [(h0, .inr (2, [.ref h1])), (h1, .inl (dL, 1089, .inr (.inl g)))] s.heap.size = A at hD ⊢
  have hA : ∀ q : Nat, s.heap.size ≤ q → A q := fun q h => by rw [← hAe]; exact Or.inr h
  have hS : va_S A s.heap s.heap [] := va_S.rf
  have hl := lv_entry ([.ref h0, .int (nI i), .int (nI k), .long v]) (n := 5) (Nat.le_of_ble_eq_true rfl)
  rw [lg_entry_eq]
  generalize (lg_sl ([.ref h0, .int (nI i), .int (nI k), .long v]) ++ List.replicate (5 - (lg_sl ([.ref h0, .int (nI i), .int (nI k), .long v])).length) Slot.unset).toArray = ls at hl ⊢
  have hl : lv_has ls 5 [(0, .ref h0), (1, .int (nI i)), (2, .int (nI k)), (3, .long v)] := hl
  refine lv_aload_n hx hb dX2_put_0 rfl (lv_at hl 0 rfl) ?_
  refine va_get (D := D) (ci := 2) (v := .ref h1) (C := RX2) (T := TX2) (N := 1) hx hb hts in_X2 hown hK hP 0 rfl rfl 0 (by decide) (hts _ q35) (fun _ h9 => h9) rfl dX2_put_1 ?_
  refine lv_iload_n hx hb dX2_put_4 rfl (lv_at hl 1 rfl) ?_
  refine lv_bipush (v := nI 33) hx hb dX2_put_5 (by decide) ?_
  refine tc_imul hx hb dX2_put_7 ?_
  refine lv_iload_n hx hb dX2_put_8 rfl (lv_at hl 2 rfl) ?_
  refine tc_iadd hx hb dX2_put_9 ?_
  refine lv_lload_n hx hb dX2_put_10 rfl (lv_at hl 3 rfl) ?_
  refine tc_last hx hb hK hP hD hS 1 1 rfl rfl (by omega) (by decide) dX2_put_11 (fun H locs hP hD hS => ?_)
  have hP : va_P D vwCl [(h0, .inr (2, [.ref h1])), (h1, .inl (dL, 1089, .inr (.inl (vp_updL g ((i * 33) + k) v))))] H := hP
  have hD : va_D A [(h0, .inr (2, [.ref h1])), (h1, .inl (dL, 1089, .inr (.inl (vp_updL g ((i * 33) + k) v))))] := hD
  have hP9 := hP.sub (ws' := [(h0, .inr (2, [.ref h1])), (h1, .inl (dL, 1089, .inr (.inl (vp_updL g ((i * 33) + k) v))))]) [0, 1] rfl
  have hD9 := hD.sub (ws' := [(h0, .inr (2, [.ref h1])), (h1, .inl (dL, 1089, .inr (.inl (vp_updL g ((i * 33) + k) v))))]) [0, 1] (by decide) rfl
  exact W.vret hx hb hr (fun t ht hW => ⟨⟨(), rfl, trivial, tc_end hP9 hK hD9 ht hW⟩, hS.F ht⟩) hS.2.2 dX2_put_12
/-! Level.get: the place of the smaller of nodes and left -/
set_option maxHeartbeats 4000000 in
set_option maxRecDepth 100000 in
theorem met_get (l : Launch) (D : va_G) (dA dL : ClassId) (h0 h1 i k : Nat) (g : Nat → Int64) (sz : Nat) (hi : i ≤ 32) (hk : k < 2 ^ 31) : Met l yX2_get (ws_ yX2_get cX2_get 3 (some .long)) ({ frames := 1, cells := 0, slots := 0, locals := 20 }) (va_Pc [.ref h0, .int (nI i), .int (nI k)] (tc_Pre D dA dL [(h0, .inr (2, [.ref h1])), (h1, .inl (dL, 1089, .inr (.inl g)))] sz)) (va_Ql (fun (r : Int64) (_ : Unit) => r = g (i * 33 + min k i)) (fun _ t => tc_B D dA dL (va_A [(h0, .inr (2, [.ref h1])), (h1, .inl (dL, 1089, .inr (.inl g)))] sz) [(h0, .inr (2, [.ref h1])), (h1, .inl (dL, 1089, .inr (.inl g)))] t) (va_A [(h0, .inr (2, [.ref h1])), (h1, .inl (dL, 1089, .inr (.inl g)))] sz)) 0 0 (va_A [(h0, .inr (2, [.ref h1])), (h1, .inl (dL, 1089, .inr (.inl g)))] sz) := by
  refine Met.ofW (cc := cX2_get) (maxL := 3) (ret := (some .long)) (by decide) rfl ?_
  intro p e s m args below meth c s₁ B hml hv
  obtain ⟨rfl, hsz, hP, hK, hD0⟩ := hv
  have hx := B.exec
  have hb := B.bytes
  have hr := B.returns
  have hts := atoms_spec (ws := ws_ yX2_get cX2_get 3 (some .long)) B.pre
  have hts : ∀ w ∈ lw_all, w.before _ s = true := fun w h => hts w (List.mem_cons_of_mem _ h)
  have hown : s.vm.findClass RX2 = some m.cls := findClass_of_methodNamed B.named
  have hlocks := B.notSynchronized
  subst hsz
  have hD := hD0.self (sz := s.heap.size)
  generalize hAe : va_A [(h0, .inr (2, [.ref h1])), (h1, .inl (dL, 1089, .inr (.inl g)))] s.heap.size = A at hD ⊢
  have hA : ∀ q : Nat, s.heap.size ≤ q → A q := fun q h => by rw [← hAe]; exact Or.inr h
  have hS : va_S A s.heap s.heap [] := va_S.rf
  have hl := lv_entry ([.ref h0, .int (nI i), .int (nI k)]) (n := 3) (Nat.le_of_ble_eq_true rfl)
  rw [lg_entry_eq]
  generalize (lg_sl ([.ref h0, .int (nI i), .int (nI k)]) ++ List.replicate (3 - (lg_sl ([.ref h0, .int (nI i), .int (nI k)])).length) Slot.unset).toArray = ls at hl ⊢
  have hl : lv_has ls 3 [(0, .ref h0), (1, .int (nI i)), (2, .int (nI k))] := hl
  refine lv_aload_n hx hb dX2_get_0 rfl (lv_at hl 0 rfl) ?_
  refine va_get (D := D) (ci := 2) (v := .ref h1) (C := RX2) (T := TX2) (N := 1) hx hb hts in_X2 hown hK hP 0 rfl rfl 0 (by decide) (hts _ q35) (fun _ h9 => h9) rfl dX2_get_1 ?_
  refine lv_iload_n hx hb dX2_get_4 rfl (lv_at hl 1 rfl) ?_
  refine lv_bipush (v := nI 33) hx hb dX2_get_5 (by decide) ?_
  refine tc_imul hx hb dX2_get_7 ?_
  refine lv_iload_n hx hb dX2_get_8 rfl (lv_at hl 2 rfl) ?_
  refine lv_iload_n hx hb dX2_get_9 rfl (lv_at hl 1 rfl) ?_
  refine va_mmin hx hb (by rw [hml]; exact hl.1.symm) hown (hts _ q100) (hts _ q101) (hts _ q5) (hts _ q102) (Nat.le_of_ble_eq_true rfl) (Nat.le_of_ble_eq_true rfl) (Nat.zero_le _) (Nat.zero_le _) dX2_get_10 ?_
  refine tc_toi (nI (min k i)) (tc_min_i (by omega) (by omega)) ?_
  refine tc_iadd hx hb dX2_get_13 ?_
  refine tc_lald hx hb hK hP 1 1 rfl rfl (g ((i * 33) + (min k i))) (by omega) (by decide) rfl dX2_get_14 ?_
  have hP9 := hP.sub (ws' := [(h0, .inr (2, [.ref h1])), (h1, .inl (dL, 1089, .inr (.inl g)))]) [0, 1] rfl
  have hD9 := hD.sub (ws' := [(h0, .inr (2, [.ref h1])), (h1, .inl (dL, 1089, .inr (.inl g)))]) [0, 1] (by decide) rfl
  exact W.lret (v := (g ((i * 33) + (min k i)))) hx hb hr (fun t ht hW => ⟨⟨_, (), rfl, rfl, tc_end hP9 hK hD9 ht hW⟩, hS.F ht⟩) hS.2.2 dX2_get_15
/-! Sums.least -/
set_option maxHeartbeats 4000000 in
set_option maxRecDepth 100000 in
theorem met_sleast (l : Launch) (D : va_G) (dA dL : ClassId) (h0 h1 h2 k : Nat) (f : Nat → Int32) (g : Nat → Int64) (sz : Nat) (hk : k < 33) : Met l yX1_least (ws_ yX1_least cX1_least 2 (some .long)) ({ frames := 0, cells := 0, slots := 0, locals := 0 }) (va_Pc [.ref h0, .int (nI k)] (tc_Pre D dA dL [(h0, .inr (1, [.ref h1, .ref h2])), (h1, .inl (dA, 32, .inl f)), (h2, .inl (dL, 33, .inr (.inl g)))] sz)) (va_Ql (fun (r : Int64) (_ : Unit) => r = g k) (fun _ t => tc_B D dA dL (va_A [(h0, .inr (1, [.ref h1, .ref h2])), (h1, .inl (dA, 32, .inl f)), (h2, .inl (dL, 33, .inr (.inl g)))] sz) [(h0, .inr (1, [.ref h1, .ref h2])), (h1, .inl (dA, 32, .inl f)), (h2, .inl (dL, 33, .inr (.inl g)))] t) (va_A [(h0, .inr (1, [.ref h1, .ref h2])), (h1, .inl (dA, 32, .inl f)), (h2, .inl (dL, 33, .inr (.inl g)))] sz)) 0 0 (va_A [(h0, .inr (1, [.ref h1, .ref h2])), (h1, .inl (dA, 32, .inl f)), (h2, .inl (dL, 33, .inr (.inl g)))] sz) := by
  refine Met.ofW (cc := cX1_least) (maxL := 2) (ret := (some .long)) (by decide) rfl ?_
  intro p e s m args below meth c s₁ B hml hv
  obtain ⟨rfl, hsz, hP, hK, hD0⟩ := hv
  have hx := B.exec
  have hb := B.bytes
  have hr := B.returns
  have hts := atoms_spec (ws := ws_ yX1_least cX1_least 2 (some .long)) B.pre
  have hts : ∀ w ∈ lw_all, w.before _ s = true := fun w h => hts w (List.mem_cons_of_mem _ h)
  have hown : s.vm.findClass RX1 = some m.cls := findClass_of_methodNamed B.named
  have hlocks := B.notSynchronized
  subst hsz
  have hD := hD0.self (sz := s.heap.size)
  generalize hAe : va_A [(h0, .inr (1, [.ref h1, .ref h2])), (h1, .inl (dA, 32, .inl f)), (h2, .inl (dL, 33, .inr (.inl g)))] s.heap.size = A at hD ⊢
  have hA : ∀ q : Nat, s.heap.size ≤ q → A q := fun q h => by rw [← hAe]; exact Or.inr h
  have hS : va_S A s.heap s.heap [] := va_S.rf
  have hl := lv_entry ([.ref h0, .int (nI k)]) (n := 2) (Nat.le_of_ble_eq_true rfl)
  rw [lg_entry_eq]
  generalize (lg_sl ([.ref h0, .int (nI k)]) ++ List.replicate (2 - (lg_sl ([.ref h0, .int (nI k)])).length) Slot.unset).toArray = ls at hl ⊢
  have hl : lv_has ls 2 [(0, .ref h0), (1, .int (nI k))] := hl
  refine lv_aload_n hx hb dX1_least_0 rfl (lv_at hl 0 rfl) ?_
  refine va_get (D := D) (ci := 1) (v := .ref h2) (C := RX1) (T := TX1) (N := 2) hx hb hts in_X1 hown hK hP 0 rfl rfl 1 (by decide) (hts _ q21) (fun _ h9 => h9) rfl dX1_least_1 ?_
  refine lv_iload_n hx hb dX1_least_4 rfl (lv_at hl 1 rfl) ?_
  refine tc_lald hx hb hK hP 2 1 rfl rfl (g k) (by omega) (by decide) rfl dX1_least_5 ?_
  have hP9 := hP.sub (ws' := [(h0, .inr (1, [.ref h1, .ref h2])), (h1, .inl (dA, 32, .inl f)), (h2, .inl (dL, 33, .inr (.inl g)))]) [0, 1, 2] rfl
  have hD9 := hD.sub (ws' := [(h0, .inr (1, [.ref h1, .ref h2])), (h1, .inl (dA, 32, .inl f)), (h2, .inl (dL, 33, .inr (.inl g)))]) [0, 1, 2] (by decide) rfl
  exact W.lret (v := (g k)) hx hb hr (fun t ht hW => ⟨⟨_, (), rfl, rfl, tc_end hP9 hK hD9 ht hW⟩, hS.F ht⟩) hS.2.2 dX1_least_6
/-! letters -/
set_option maxHeartbeats 4000000 in
set_option maxRecDepth 100000 in
theorem met_let0 (l : Launch) (D : va_G) (dA dL : ClassId) (h0 x : Nat) (v0 v2 v3 v4 v5 : Value) (v1 : Int32) (sz : Nat)  : Met l yX0_letters (ws_ yX0_letters cX0_letters 2 none) ({ frames := 0, cells := 0, slots := 0, locals := 0 }) (va_Pc [.ref h0, .int (nI x)] (tc_Pre D dA dL [(h0, .inr (0, [v0, .int v1, v2, v3, v4, v5]))] sz)) (va_Qv (fun _ : Unit => True) (fun _ t => tc_B D dA dL (va_A [(h0, .inr (0, [v0, .int v1, v2, v3, v4, v5]))] sz) [(h0, .inr (0, [v0, .int (nI (tc_let x)), v2, v3, v4, v5]))] t) (va_A [(h0, .inr (0, [v0, .int v1, v2, v3, v4, v5]))] sz)) 0 0 (va_A [(h0, .inr (0, [v0, .int v1, v2, v3, v4, v5]))] sz) := by
  refine Met.ofW (cc := cX0_letters) (maxL := 2) (ret := none) (by decide) rfl ?_
  intro p e s m args below meth c s₁ B hml hv
  obtain ⟨rfl, hsz, hP, hK, hD0⟩ := hv
  have hx := B.exec
  have hb := B.bytes
  have hr := B.returns
  have hts := atoms_spec (ws := ws_ yX0_letters cX0_letters 2 none) B.pre
  have hts : ∀ w ∈ lw_all, w.before _ s = true := fun w h => hts w (List.mem_cons_of_mem _ h)
  have hown : s.vm.findClass RX0 = some m.cls := findClass_of_methodNamed B.named
  have hlocks := B.notSynchronized
  subst hsz
  have hD := hD0.self (sz := s.heap.size)
  generalize hAe : va_A [(h0, .inr (0, [v0, .int v1, v2, v3, v4, v5]))] s.heap.size = A at hD ⊢
  have hA : ∀ q : Nat, s.heap.size ≤ q → A q := fun q h => by rw [← hAe]; exact Or.inr h
  have hS : va_S A s.heap s.heap [] := va_S.rf
  have hl := lv_entry ([.ref h0, .int (nI x)]) (n := 2) (Nat.le_of_ble_eq_true rfl)
  rw [lg_entry_eq]
  generalize (lg_sl ([.ref h0, .int (nI x)]) ++ List.replicate (2 - (lg_sl ([.ref h0, .int (nI x)])).length) Slot.unset).toArray = ls at hl ⊢
  have hl : lv_has ls 2 [(0, .ref h0), (1, .int (nI x))] := hl
  refine lv_aload_n hx hb dX0_letters_0 rfl (lv_at hl 0 rfl) ?_
  refine lv_iconst (v := nI 2) hx hb dX0_letters_1 (by decide) ?_
  refine lv_iload_n hx hb dX0_letters_2 rfl (lv_at hl 1 rfl) ?_
  refine lv_ldc (v := 2147483647) hx hb hown (hts _ q62) dX0_letters_3 ?_
  refine lv_iand hx hb dX0_letters_5 (tc_toi _ (tc_andM _) ?_)
  refine lv_bipush (v := nI 15) hx hb dX0_letters_6 (by decide) ?_
  refine tc_irem hx hb (by omega) (by decide) (by decide) dX0_letters_8 ?_
  refine tc_iadd hx hb dX0_letters_9 ?_
  refine va_put (D := D) (ci := 0) (v := .int (nI (2 + ((x % 2147483648) % 15)))) (ty := .int) (C := RX0) (T := TX0) (N := 6) hx hb hts in_X0 tyX0 tyX0_ok nmX0 hown hK hP hD hS 0 rfl rfl 1 (by decide) (hts _ q40) (fun _ h9 => h9) rfl (by decide +kernel) rfl rfl (Nat.le_of_ble_eq_true rfl) dX0_letters_10 (fun H locs hP hD hS => ?_)
  have hP : va_P D vwCl [(h0, .inr (0, [v0, .int (nI (2 + ((x % 2147483648) % 15))), v2, v3, v4, v5]))] H := hP
  have hD : va_D A [(h0, .inr (0, [v0, .int (nI (2 + ((x % 2147483648) % 15))), v2, v3, v4, v5]))] := hD
  have hP9 := hP.sub (ws' := [(h0, .inr (0, [v0, .int (nI (2 + ((x % 2147483648) % 15))), v2, v3, v4, v5]))]) [0] rfl
  have hD9 := hD.sub (ws' := [(h0, .inr (0, [v0, .int (nI (2 + ((x % 2147483648) % 15))), v2, v3, v4, v5]))]) [0] (by decide) rfl
  exact W.vret hx hb hr (fun t ht hW => ⟨⟨(), rfl, trivial, tc_end hP9 hK hD9 ht hW⟩, hS.F ht⟩) hS.2.2 dX0_letters_13
/-! limit -/
set_option maxHeartbeats 4000000 in
set_option maxRecDepth 100000 in
theorem met_lim0 (l : Launch) (D : va_G) (dA dL : ClassId) (h0 x : Nat) (v0 v1 v3 v4 v5 : Value) (v2 : Int32) (sz : Nat)  : Met l yX0_limit (ws_ yX0_limit cX0_limit 2 none) ({ frames := 0, cells := 0, slots := 0, locals := 0 }) (va_Pc [.ref h0, .int (nI x)] (tc_Pre D dA dL [(h0, .inr (0, [v0, v1, .int v2, v3, v4, v5]))] sz)) (va_Qv (fun _ : Unit => True) (fun _ t => tc_B D dA dL (va_A [(h0, .inr (0, [v0, v1, .int v2, v3, v4, v5]))] sz) [(h0, .inr (0, [v0, v1, .int (nI (tc_lim x)), v3, v4, v5]))] t) (va_A [(h0, .inr (0, [v0, v1, .int v2, v3, v4, v5]))] sz)) 0 0 (va_A [(h0, .inr (0, [v0, v1, .int v2, v3, v4, v5]))] sz) := by
  refine Met.ofW (cc := cX0_limit) (maxL := 2) (ret := none) (by decide) rfl ?_
  intro p e s m args below meth c s₁ B hml hv
  obtain ⟨rfl, hsz, hP, hK, hD0⟩ := hv
  have hx := B.exec
  have hb := B.bytes
  have hr := B.returns
  have hts := atoms_spec (ws := ws_ yX0_limit cX0_limit 2 none) B.pre
  have hts : ∀ w ∈ lw_all, w.before _ s = true := fun w h => hts w (List.mem_cons_of_mem _ h)
  have hown : s.vm.findClass RX0 = some m.cls := findClass_of_methodNamed B.named
  have hlocks := B.notSynchronized
  subst hsz
  have hD := hD0.self (sz := s.heap.size)
  generalize hAe : va_A [(h0, .inr (0, [v0, v1, .int v2, v3, v4, v5]))] s.heap.size = A at hD ⊢
  have hA : ∀ q : Nat, s.heap.size ≤ q → A q := fun q h => by rw [← hAe]; exact Or.inr h
  have hS : va_S A s.heap s.heap [] := va_S.rf
  have hl := lv_entry ([.ref h0, .int (nI x)]) (n := 2) (Nat.le_of_ble_eq_true rfl)
  rw [lg_entry_eq]
  generalize (lg_sl ([.ref h0, .int (nI x)]) ++ List.replicate (2 - (lg_sl ([.ref h0, .int (nI x)])).length) Slot.unset).toArray = ls at hl ⊢
  have hl : lv_has ls 2 [(0, .ref h0), (1, .int (nI x))] := hl
  refine lv_aload_n hx hb dX0_limit_0 rfl (lv_at hl 0 rfl) ?_
  refine lv_iload_n hx hb dX0_limit_1 rfl (lv_at hl 1 rfl) ?_
  refine lv_ldc (v := 2147483647) hx hb hown (hts _ q62) dX0_limit_2 ?_
  refine lv_iand hx hb dX0_limit_4 (tc_toi _ (tc_andM _) ?_)
  refine lv_bipush (v := nI 16) hx hb dX0_limit_5 (by decide) ?_
  refine tc_irem hx hb (by omega) (by decide) (by decide) dX0_limit_7 ?_
  refine va_put (D := D) (ci := 0) (v := .int (nI ((x % 2147483648) % 16))) (ty := .int) (C := RX0) (T := TX0) (N := 6) hx hb hts in_X0 tyX0 tyX0_ok nmX0 hown hK hP hD hS 0 rfl rfl 2 (by decide) (hts _ q41) (fun _ h9 => h9) rfl (by decide +kernel) rfl rfl (Nat.le_of_ble_eq_true rfl) dX0_limit_8 (fun H locs hP hD hS => ?_)
  have hP : va_P D vwCl [(h0, .inr (0, [v0, v1, .int (nI ((x % 2147483648) % 16)), v3, v4, v5]))] H := hP
  have hD : va_D A [(h0, .inr (0, [v0, v1, .int (nI ((x % 2147483648) % 16)), v3, v4, v5]))] := hD
  have hP9 := hP.sub (ws' := [(h0, .inr (0, [v0, v1, .int (nI ((x % 2147483648) % 16)), v3, v4, v5]))]) [0] rfl
  have hD9 := hD.sub (ws' := [(h0, .inr (0, [v0, v1, .int (nI ((x % 2147483648) % 16)), v3, v4, v5]))]) [0] (by decide) rfl
  exact W.vret hx hb hr (fun t ht hW => ⟨⟨(), rfl, trivial, tc_end hP9 hK hD9 ht hW⟩, hS.F ht⟩) hS.2.2 dX0_limit_11
/-! letters -/
set_option maxHeartbeats 4000000 in
set_option maxRecDepth 100000 in
theorem met_let3 (l : Launch) (D : va_G) (dA dL : ClassId) (h0 x : Nat) (v0 v2 v3 v4 v5 : Value) (v1 : Int32) (sz : Nat)  : Met l yX3_letters (ws_ yX3_letters cX3_letters 2 none) ({ frames := 0, cells := 0, slots := 0, locals := 0 }) (va_Pc [.ref h0, .int (nI x)] (tc_Pre D dA dL [(h0, .inr (3, [v0, .int v1, v2, v3, v4, v5]))] sz)) (va_Qv (fun _ : Unit => True) (fun _ t => tc_B D dA dL (va_A [(h0, .inr (3, [v0, .int v1, v2, v3, v4, v5]))] sz) [(h0, .inr (3, [v0, .int (nI (tc_let x)), v2, v3, v4, v5]))] t) (va_A [(h0, .inr (3, [v0, .int v1, v2, v3, v4, v5]))] sz)) 0 0 (va_A [(h0, .inr (3, [v0, .int v1, v2, v3, v4, v5]))] sz) := by
  refine Met.ofW (cc := cX3_letters) (maxL := 2) (ret := none) (by decide) rfl ?_
  intro p e s m args below meth c s₁ B hml hv
  obtain ⟨rfl, hsz, hP, hK, hD0⟩ := hv
  have hx := B.exec
  have hb := B.bytes
  have hr := B.returns
  have hts := atoms_spec (ws := ws_ yX3_letters cX3_letters 2 none) B.pre
  have hts : ∀ w ∈ lw_all, w.before _ s = true := fun w h => hts w (List.mem_cons_of_mem _ h)
  have hown : s.vm.findClass RX3 = some m.cls := findClass_of_methodNamed B.named
  have hlocks := B.notSynchronized
  subst hsz
  have hD := hD0.self (sz := s.heap.size)
  generalize hAe : va_A [(h0, .inr (3, [v0, .int v1, v2, v3, v4, v5]))] s.heap.size = A at hD ⊢
  have hA : ∀ q : Nat, s.heap.size ≤ q → A q := fun q h => by rw [← hAe]; exact Or.inr h
  have hS : va_S A s.heap s.heap [] := va_S.rf
  have hl := lv_entry ([.ref h0, .int (nI x)]) (n := 2) (Nat.le_of_ble_eq_true rfl)
  rw [lg_entry_eq]
  generalize (lg_sl ([.ref h0, .int (nI x)]) ++ List.replicate (2 - (lg_sl ([.ref h0, .int (nI x)])).length) Slot.unset).toArray = ls at hl ⊢
  have hl : lv_has ls 2 [(0, .ref h0), (1, .int (nI x))] := hl
  refine lv_aload_n hx hb dX3_letters_0 rfl (lv_at hl 0 rfl) ?_
  refine lv_iconst (v := nI 2) hx hb dX3_letters_1 (by decide) ?_
  refine lv_iload_n hx hb dX3_letters_2 rfl (lv_at hl 1 rfl) ?_
  refine lv_ldc (v := 2147483647) hx hb hown (hts _ q140) dX3_letters_3 ?_
  refine lv_iand hx hb dX3_letters_5 (tc_toi _ (tc_andM _) ?_)
  refine lv_bipush (v := nI 15) hx hb dX3_letters_6 (by decide) ?_
  refine tc_irem hx hb (by omega) (by decide) (by decide) dX3_letters_8 ?_
  refine tc_iadd hx hb dX3_letters_9 ?_
  refine va_put (D := D) (ci := 3) (v := .int (nI (2 + ((x % 2147483648) % 15)))) (ty := .int) (C := RX3) (T := TX3) (N := 6) hx hb hts in_X3 tyX3 tyX3_ok nmX3 hown hK hP hD hS 0 rfl rfl 1 (by decide) (hts _ q118) (fun _ h9 => h9) rfl (by decide +kernel) rfl rfl (Nat.le_of_ble_eq_true rfl) dX3_letters_10 (fun H locs hP hD hS => ?_)
  have hP : va_P D vwCl [(h0, .inr (3, [v0, .int (nI (2 + ((x % 2147483648) % 15))), v2, v3, v4, v5]))] H := hP
  have hD : va_D A [(h0, .inr (3, [v0, .int (nI (2 + ((x % 2147483648) % 15))), v2, v3, v4, v5]))] := hD
  have hP9 := hP.sub (ws' := [(h0, .inr (3, [v0, .int (nI (2 + ((x % 2147483648) % 15))), v2, v3, v4, v5]))]) [0] rfl
  have hD9 := hD.sub (ws' := [(h0, .inr (3, [v0, .int (nI (2 + ((x % 2147483648) % 15))), v2, v3, v4, v5]))]) [0] (by decide) rfl
  exact W.vret hx hb hr (fun t ht hW => ⟨⟨(), rfl, trivial, tc_end hP9 hK hD9 ht hW⟩, hS.F ht⟩) hS.2.2 dX3_letters_13
/-! limit -/
set_option maxHeartbeats 4000000 in
set_option maxRecDepth 100000 in
theorem met_lim3 (l : Launch) (D : va_G) (dA dL : ClassId) (h0 x : Nat) (v0 v1 v3 v4 v5 : Value) (v2 : Int32) (sz : Nat)  : Met l yX3_limit (ws_ yX3_limit cX3_limit 2 none) ({ frames := 0, cells := 0, slots := 0, locals := 0 }) (va_Pc [.ref h0, .int (nI x)] (tc_Pre D dA dL [(h0, .inr (3, [v0, v1, .int v2, v3, v4, v5]))] sz)) (va_Qv (fun _ : Unit => True) (fun _ t => tc_B D dA dL (va_A [(h0, .inr (3, [v0, v1, .int v2, v3, v4, v5]))] sz) [(h0, .inr (3, [v0, v1, .int (nI (tc_lim x)), v3, v4, v5]))] t) (va_A [(h0, .inr (3, [v0, v1, .int v2, v3, v4, v5]))] sz)) 0 0 (va_A [(h0, .inr (3, [v0, v1, .int v2, v3, v4, v5]))] sz) := by
  refine Met.ofW (cc := cX3_limit) (maxL := 2) (ret := none) (by decide) rfl ?_
  intro p e s m args below meth c s₁ B hml hv
  obtain ⟨rfl, hsz, hP, hK, hD0⟩ := hv
  have hx := B.exec
  have hb := B.bytes
  have hr := B.returns
  have hts := atoms_spec (ws := ws_ yX3_limit cX3_limit 2 none) B.pre
  have hts : ∀ w ∈ lw_all, w.before _ s = true := fun w h => hts w (List.mem_cons_of_mem _ h)
  have hown : s.vm.findClass RX3 = some m.cls := findClass_of_methodNamed B.named
  have hlocks := B.notSynchronized
  subst hsz
  have hD := hD0.self (sz := s.heap.size)
  generalize hAe : va_A [(h0, .inr (3, [v0, v1, .int v2, v3, v4, v5]))] s.heap.size = A at hD ⊢
  have hA : ∀ q : Nat, s.heap.size ≤ q → A q := fun q h => by rw [← hAe]; exact Or.inr h
  have hS : va_S A s.heap s.heap [] := va_S.rf
  have hl := lv_entry ([.ref h0, .int (nI x)]) (n := 2) (Nat.le_of_ble_eq_true rfl)
  rw [lg_entry_eq]
  generalize (lg_sl ([.ref h0, .int (nI x)]) ++ List.replicate (2 - (lg_sl ([.ref h0, .int (nI x)])).length) Slot.unset).toArray = ls at hl ⊢
  have hl : lv_has ls 2 [(0, .ref h0), (1, .int (nI x))] := hl
  refine lv_aload_n hx hb dX3_limit_0 rfl (lv_at hl 0 rfl) ?_
  refine lv_iload_n hx hb dX3_limit_1 rfl (lv_at hl 1 rfl) ?_
  refine lv_ldc (v := 2147483647) hx hb hown (hts _ q140) dX3_limit_2 ?_
  refine lv_iand hx hb dX3_limit_4 (tc_toi _ (tc_andM _) ?_)
  refine lv_bipush (v := nI 16) hx hb dX3_limit_5 (by decide) ?_
  refine tc_irem hx hb (by omega) (by decide) (by decide) dX3_limit_7 ?_
  refine va_put (D := D) (ci := 3) (v := .int (nI ((x % 2147483648) % 16))) (ty := .int) (C := RX3) (T := TX3) (N := 6) hx hb hts in_X3 tyX3 tyX3_ok nmX3 hown hK hP hD hS 0 rfl rfl 2 (by decide) (hts _ q119) (fun _ h9 => h9) rfl (by decide +kernel) rfl rfl (Nat.le_of_ble_eq_true rfl) dX3_limit_8 (fun H locs hP hD hS => ?_)
  have hP : va_P D vwCl [(h0, .inr (3, [v0, v1, .int (nI ((x % 2147483648) % 16)), v3, v4, v5]))] H := hP
  have hD : va_D A [(h0, .inr (3, [v0, v1, .int (nI ((x % 2147483648) % 16)), v3, v4, v5]))] := hD
  have hP9 := hP.sub (ws' := [(h0, .inr (3, [v0, v1, .int (nI ((x % 2147483648) % 16)), v3, v4, v5]))]) [0] rfl
  have hD9 := hD.sub (ws' := [(h0, .inr (3, [v0, v1, .int (nI ((x % 2147483648) % 16)), v3, v4, v5]))]) [0] (by decide) rfl
  exact W.vret hx hb hr (fun t ht hW => ⟨⟨(), rfl, trivial, tc_end hP9 hK hD9 ht hW⟩, hS.F ht⟩) hS.2.2 dX3_limit_11
/-! weight -/
set_option maxHeartbeats 4000000 in
set_option maxRecDepth 100000 in
theorem met_wt0 (l : Launch) (D : va_G) (dA dL : ClassId) (h0 h1 i a b c1 d : Nat) (f : Nat → Int32) (v1 v2 v3 v4 v5 : Value) (sz : Nat)  : Met l yX0_weight (ws_ yX0_weight cX0_weight 7 none) ({ frames := 0, cells := 0, slots := 0, locals := 0 }) (va_Pc [.ref h0, .int (nI i), .int (nI a), .int (nI b), .int (nI c1), .int (nI d)] (tc_Pre D dA dL [(h0, .inr (0, [.ref h1, v1, v2, v3, v4, v5])), (h1, .inl (dA, 32, .inl f))] sz)) (va_Qv (fun _ : Unit => True) (fun _ t => tc_B D dA dL (va_A [(h0, .inr (0, [.ref h1, v1, v2, v3, v4, v5])), (h1, .inl (dA, 32, .inl f))] sz) [(h0, .inr (0, [.ref h1, v1, v2, v3, v4, v5])), (h1, .inl (dA, 32, .inl (tc_wset f i a b c1 d)))] t) (va_A [(h0, .inr (0, [.ref h1, v1, v2, v3, v4, v5])), (h1, .inl (dA, 32, .inl f))] sz)) 0 0 (va_A [(h0, .inr (0, [.ref h1, v1, v2, v3, v4, v5])), (h1, .inl (dA, 32, .inl f))] sz) := by
  refine Met.ofW (cc := cX0_weight) (maxL := 7) (ret := none) (by decide) rfl ?_
  intro p e s m args below meth c s₁ B hml hv
  obtain ⟨rfl, hsz, hP, hK, hD0⟩ := hv
  have hx := B.exec
  have hb := B.bytes
  have hr := B.returns
  have hts := atoms_spec (ws := ws_ yX0_weight cX0_weight 7 none) B.pre
  have hts : ∀ w ∈ lw_all, w.before _ s = true := fun w h => hts w (List.mem_cons_of_mem _ h)
  have hown : s.vm.findClass RX0 = some m.cls := findClass_of_methodNamed B.named
  have hlocks := B.notSynchronized
  subst hsz
  have hD := hD0.self (sz := s.heap.size)
  generalize hAe : va_A [(h0, .inr (0, [.ref h1, v1, v2, v3, v4, v5])), (h1, .inl (dA, 32, .inl f))] s.heap.size = A at hD ⊢
  have hA : ∀ q : Nat, s.heap.size ≤ q → A q := fun q h => by rw [← hAe]; exact Or.inr h
  have hS : va_S A s.heap s.heap [] := va_S.rf
  have hl := lv_entry ([.ref h0, .int (nI i), .int (nI a), .int (nI b), .int (nI c1), .int (nI d)]) (n := 7) (Nat.le_of_ble_eq_true rfl)
  rw [lg_entry_eq]
  generalize (lg_sl ([.ref h0, .int (nI i), .int (nI a), .int (nI b), .int (nI c1), .int (nI d)]) ++ List.replicate (7 - (lg_sl ([.ref h0, .int (nI i), .int (nI a), .int (nI b), .int (nI c1), .int (nI d)])).length) Slot.unset).toArray = ls at hl ⊢
  have hl : lv_has ls 7 [(0, .ref h0), (1, .int (nI i)), (2, .int (nI a)), (3, .int (nI b)), (4, .int (nI c1)), (5, .int (nI d))] := hl
  refine lv_iload_n hx hb dX0_weight_0 rfl (lv_at hl 1 rfl) ?_
  refine lv_bipush (v := nI 31) hx hb dX0_weight_1 (by decide) ?_
  refine lv_iand hx hb dX0_weight_3 (tc_toi _ (tc_and31 _) ?_)
  refine lv_istore (lv' := [(6, .int (nI (i % 32))), (0, .ref h0), (1, .int (nI i)), (2, .int (nI a)), (3, .int (nI b)), (4, .int (nI c1)), (5, .int (nI d))]) hx hb dX0_weight_4 hl (by decide) rfl (fun ls hl => ?_)
  refine lv_aload_n hx hb dX0_weight_6 rfl (lv_at hl 1 rfl) ?_
  refine va_get (D := D) (ci := 0) (v := .ref h1) (C := RX0) (T := TX0) (N := 6) hx hb hts in_X0 hown hK hP 0 rfl rfl 0 (by decide) (hts _ q39) (fun _ h9 => h9) rfl dX0_weight_7 ?_
  refine lv_iload hx hb dX0_weight_10 (lv_at hl 0 rfl) ?_
  refine lv_iload_n hx hb dX0_weight_12 rfl (lv_at hl 3 rfl) ?_
  refine lv_ldc (v := 2147483647) hx hb hown (hts _ q62) dX0_weight_13 ?_
  refine lv_iand hx hb dX0_weight_15 (tc_toi _ (tc_andM _) ?_)
  refine tc_iast hx hb hK hP hD hS 1 0 rfl rfl (by omega) (by decide) dX0_weight_16 (fun H locs hP hD hS => ?_)
  have hP : va_P D vwCl [(h0, .inr (0, [.ref h1, v1, v2, v3, v4, v5])), (h1, .inl (dA, 32, .inl (upd f (i % 32) (nI (a % 2147483648)))))] H := hP
  have hD : va_D A [(h0, .inr (0, [.ref h1, v1, v2, v3, v4, v5])), (h1, .inl (dA, 32, .inl (upd f (i % 32) (nI (a % 2147483648)))))] := hD
  refine lv_aload_n hx hb dX0_weight_17 rfl (lv_at hl 1 rfl) ?_
  refine va_get (D := D) (ci := 0) (v := .ref h1) (C := RX0) (T := TX0) (N := 6) hx hb hts in_X0 hown hK hP 0 rfl rfl 0 (by decide) (hts _ q39) (fun _ h9 => h9) rfl dX0_weight_18 ?_
  refine lv_iload hx hb dX0_weight_21 (lv_at hl 0 rfl) ?_
  refine lv_iconst (v := nI 1) hx hb dX0_weight_23 (by decide) ?_
  refine tc_iadd hx hb dX0_weight_24 ?_
  refine lv_bipush (v := nI 31) hx hb dX0_weight_25 (by decide) ?_
  refine lv_iand hx hb dX0_weight_27 (tc_toi _ (tc_and31 _) ?_)
  refine tc_toi ((nI ((i + 1) % 32))) (congrArg nI (by omega)) ?_
  refine lv_iload_n hx hb dX0_weight_28 rfl (lv_at hl 4 rfl) ?_
  refine lv_ldc (v := 2147483647) hx hb hown (hts _ q62) dX0_weight_29 ?_
  refine lv_iand hx hb dX0_weight_31 (tc_toi _ (tc_andM _) ?_)
  refine tc_iast hx hb hK hP hD hS 1 0 rfl rfl (by omega) (by decide) dX0_weight_32 (fun H locs hP hD hS => ?_)
  have hP : va_P D vwCl [(h0, .inr (0, [.ref h1, v1, v2, v3, v4, v5])), (h1, .inl (dA, 32, .inl (upd (upd f (i % 32) (nI (a % 2147483648))) ((i + 1) % 32) (nI (b % 2147483648)))))] H := hP
  have hD : va_D A [(h0, .inr (0, [.ref h1, v1, v2, v3, v4, v5])), (h1, .inl (dA, 32, .inl (upd (upd f (i % 32) (nI (a % 2147483648))) ((i + 1) % 32) (nI (b % 2147483648)))))] := hD
  refine lv_aload_n hx hb dX0_weight_33 rfl (lv_at hl 1 rfl) ?_
  refine va_get (D := D) (ci := 0) (v := .ref h1) (C := RX0) (T := TX0) (N := 6) hx hb hts in_X0 hown hK hP 0 rfl rfl 0 (by decide) (hts _ q39) (fun _ h9 => h9) rfl dX0_weight_34 ?_
  refine lv_iload hx hb dX0_weight_37 (lv_at hl 0 rfl) ?_
  refine lv_iconst (v := nI 2) hx hb dX0_weight_39 (by decide) ?_
  refine tc_iadd hx hb dX0_weight_40 ?_
  refine lv_bipush (v := nI 31) hx hb dX0_weight_41 (by decide) ?_
  refine lv_iand hx hb dX0_weight_43 (tc_toi _ (tc_and31 _) ?_)
  refine tc_toi ((nI ((i + 2) % 32))) (congrArg nI (by omega)) ?_
  refine lv_iload hx hb dX0_weight_44 (lv_at hl 5 rfl) ?_
  refine lv_ldc (v := 2147483647) hx hb hown (hts _ q62) dX0_weight_46 ?_
  refine lv_iand hx hb dX0_weight_48 (tc_toi _ (tc_andM _) ?_)
  refine tc_iast hx hb hK hP hD hS 1 0 rfl rfl (by omega) (by decide) dX0_weight_49 (fun H locs hP hD hS => ?_)
  have hP : va_P D vwCl [(h0, .inr (0, [.ref h1, v1, v2, v3, v4, v5])), (h1, .inl (dA, 32, .inl (upd (upd (upd f (i % 32) (nI (a % 2147483648))) ((i + 1) % 32) (nI (b % 2147483648))) ((i + 2) % 32) (nI (c1 % 2147483648)))))] H := hP
  have hD : va_D A [(h0, .inr (0, [.ref h1, v1, v2, v3, v4, v5])), (h1, .inl (dA, 32, .inl (upd (upd (upd f (i % 32) (nI (a % 2147483648))) ((i + 1) % 32) (nI (b % 2147483648))) ((i + 2) % 32) (nI (c1 % 2147483648)))))] := hD
  refine lv_aload_n hx hb dX0_weight_50 rfl (lv_at hl 1 rfl) ?_
  refine va_get (D := D) (ci := 0) (v := .ref h1) (C := RX0) (T := TX0) (N := 6) hx hb hts in_X0 hown hK hP 0 rfl rfl 0 (by decide) (hts _ q39) (fun _ h9 => h9) rfl dX0_weight_51 ?_
  refine lv_iload hx hb dX0_weight_54 (lv_at hl 0 rfl) ?_
  refine lv_iconst (v := nI 3) hx hb dX0_weight_56 (by decide) ?_
  refine tc_iadd hx hb dX0_weight_57 ?_
  refine lv_bipush (v := nI 31) hx hb dX0_weight_58 (by decide) ?_
  refine lv_iand hx hb dX0_weight_60 (tc_toi _ (tc_and31 _) ?_)
  refine tc_toi ((nI ((i + 3) % 32))) (congrArg nI (by omega)) ?_
  refine lv_iload hx hb dX0_weight_61 (lv_at hl 6 rfl) ?_
  refine lv_ldc (v := 2147483647) hx hb hown (hts _ q62) dX0_weight_63 ?_
  refine lv_iand hx hb dX0_weight_65 (tc_toi _ (tc_andM _) ?_)
  refine tc_iast hx hb hK hP hD hS 1 0 rfl rfl (by omega) (by decide) dX0_weight_66 (fun H locs hP hD hS => ?_)
  have hP : va_P D vwCl [(h0, .inr (0, [.ref h1, v1, v2, v3, v4, v5])), (h1, .inl (dA, 32, .inl (upd (upd (upd (upd f (i % 32) (nI (a % 2147483648))) ((i + 1) % 32) (nI (b % 2147483648))) ((i + 2) % 32) (nI (c1 % 2147483648))) ((i + 3) % 32) (nI (d % 2147483648)))))] H := hP
  have hD : va_D A [(h0, .inr (0, [.ref h1, v1, v2, v3, v4, v5])), (h1, .inl (dA, 32, .inl (upd (upd (upd (upd f (i % 32) (nI (a % 2147483648))) ((i + 1) % 32) (nI (b % 2147483648))) ((i + 2) % 32) (nI (c1 % 2147483648))) ((i + 3) % 32) (nI (d % 2147483648)))))] := hD
  have hP9 := hP.sub (ws' := [(h0, .inr (0, [.ref h1, v1, v2, v3, v4, v5])), (h1, .inl (dA, 32, .inl (upd (upd (upd (upd f (i % 32) (nI (a % 2147483648))) ((i + 1) % 32) (nI (b % 2147483648))) ((i + 2) % 32) (nI (c1 % 2147483648))) ((i + 3) % 32) (nI (d % 2147483648)))))]) [0, 1] rfl
  have hD9 := hD.sub (ws' := [(h0, .inr (0, [.ref h1, v1, v2, v3, v4, v5])), (h1, .inl (dA, 32, .inl (upd (upd (upd (upd f (i % 32) (nI (a % 2147483648))) ((i + 1) % 32) (nI (b % 2147483648))) ((i + 2) % 32) (nI (c1 % 2147483648))) ((i + 3) % 32) (nI (d % 2147483648)))))]) [0, 1] (by decide) rfl
  exact W.vret hx hb hr (fun t ht hW => ⟨⟨(), rfl, trivial, tc_end hP9 hK hD9 ht hW⟩, hS.F ht⟩) hS.2.2 dX0_weight_67
/-! weight -/
set_option maxHeartbeats 4000000 in
set_option maxRecDepth 100000 in
theorem met_wt3 (l : Launch) (D : va_G) (dA dL : ClassId) (h0 h1 i a b c1 d : Nat) (f : Nat → Int32) (v1 v2 v3 v4 v5 : Value) (sz : Nat)  : Met l yX3_weight (ws_ yX3_weight cX3_weight 7 none) ({ frames := 0, cells := 0, slots := 0, locals := 0 }) (va_Pc [.ref h0, .int (nI i), .int (nI a), .int (nI b), .int (nI c1), .int (nI d)] (tc_Pre D dA dL [(h0, .inr (3, [.ref h1, v1, v2, v3, v4, v5])), (h1, .inl (dA, 32, .inl f))] sz)) (va_Qv (fun _ : Unit => True) (fun _ t => tc_B D dA dL (va_A [(h0, .inr (3, [.ref h1, v1, v2, v3, v4, v5])), (h1, .inl (dA, 32, .inl f))] sz) [(h0, .inr (3, [.ref h1, v1, v2, v3, v4, v5])), (h1, .inl (dA, 32, .inl (tc_wset f i a b c1 d)))] t) (va_A [(h0, .inr (3, [.ref h1, v1, v2, v3, v4, v5])), (h1, .inl (dA, 32, .inl f))] sz)) 0 0 (va_A [(h0, .inr (3, [.ref h1, v1, v2, v3, v4, v5])), (h1, .inl (dA, 32, .inl f))] sz) := by
  refine Met.ofW (cc := cX3_weight) (maxL := 7) (ret := none) (by decide) rfl ?_
  intro p e s m args below meth c s₁ B hml hv
  obtain ⟨rfl, hsz, hP, hK, hD0⟩ := hv
  have hx := B.exec
  have hb := B.bytes
  have hr := B.returns
  have hts := atoms_spec (ws := ws_ yX3_weight cX3_weight 7 none) B.pre
  have hts : ∀ w ∈ lw_all, w.before _ s = true := fun w h => hts w (List.mem_cons_of_mem _ h)
  have hown : s.vm.findClass RX3 = some m.cls := findClass_of_methodNamed B.named
  have hlocks := B.notSynchronized
  subst hsz
  have hD := hD0.self (sz := s.heap.size)
  generalize hAe : va_A [(h0, .inr (3, [.ref h1, v1, v2, v3, v4, v5])), (h1, .inl (dA, 32, .inl f))] s.heap.size = A at hD ⊢
  have hA : ∀ q : Nat, s.heap.size ≤ q → A q := fun q h => by rw [← hAe]; exact Or.inr h
  have hS : va_S A s.heap s.heap [] := va_S.rf
  have hl := lv_entry ([.ref h0, .int (nI i), .int (nI a), .int (nI b), .int (nI c1), .int (nI d)]) (n := 7) (Nat.le_of_ble_eq_true rfl)
  rw [lg_entry_eq]
  generalize (lg_sl ([.ref h0, .int (nI i), .int (nI a), .int (nI b), .int (nI c1), .int (nI d)]) ++ List.replicate (7 - (lg_sl ([.ref h0, .int (nI i), .int (nI a), .int (nI b), .int (nI c1), .int (nI d)])).length) Slot.unset).toArray = ls at hl ⊢
  have hl : lv_has ls 7 [(0, .ref h0), (1, .int (nI i)), (2, .int (nI a)), (3, .int (nI b)), (4, .int (nI c1)), (5, .int (nI d))] := hl
  refine lv_iconst (v := nI 0) hx hb dX3_weight_0 (by decide) ?_
  refine lv_istore (lv' := [(6, .int (nI 0)), (0, .ref h0), (1, .int (nI i)), (2, .int (nI a)), (3, .int (nI b)), (4, .int (nI c1)), (5, .int (nI d))]) hx hb dX3_weight_1 hl (by decide) rfl (fun ls hl => ?_)
  refine lv_iload hx hb dX3_weight_3 (lv_at hl 0 rfl) ?_
  refine lv_iconst (v := nI 4) hx hb dX3_weight_5 (by decide) ?_
  refine tc_icmp_ge hx hb 62 dX3_weight_6 (by decide) (by omega) (by omega) (fun c9 => absurd c9 (by omega)) (fun _ => ?_)
  refine lv_aload_n hx hb dX3_weight_9 rfl (lv_at hl 1 rfl) ?_
  refine va_get (D := D) (ci := 3) (v := .ref h1) (C := RX3) (T := TX3) (N := 6) hx hb hts in_X3 hown hK hP 0 rfl rfl 0 (by decide) (hts _ q117) (fun _ h9 => h9) rfl dX3_weight_10 ?_
  refine lv_iload_n hx hb dX3_weight_13 rfl (lv_at hl 2 rfl) ?_
  refine lv_iload hx hb dX3_weight_14 (lv_at hl 0 rfl) ?_
  refine tc_iadd hx hb dX3_weight_16 ?_
  refine lv_bipush (v := nI 31) hx hb dX3_weight_17 (by decide) ?_
  refine lv_iand hx hb dX3_weight_19 (tc_toi _ (tc_and31 _) ?_)
  refine lv_iload hx hb dX3_weight_20 (lv_at hl 0 rfl) ?_
  refine tc_if_ne hx hb 29 dX3_weight_22 (by decide) (by omega) (fun c9 => absurd c9 (by omega)) (fun _ => ?_)
  refine lv_iload_n hx hb dX3_weight_25 rfl (lv_at hl 3 rfl) ?_
  refine lv_goto (tgt := 52) hx hb dX3_weight_26 (by decide) ?_
  refine lv_ldc (v := 2147483647) hx hb hown (hts _ q140) dX3_weight_52 ?_
  refine lv_iand hx hb dX3_weight_54 (tc_toi _ (tc_andM _) ?_)
  refine tc_iast hx hb hK hP hD hS 1 0 rfl rfl (by omega) (by decide) dX3_weight_55 (fun H locs hP hD hS => ?_)
  have hP : va_P D vwCl [(h0, .inr (3, [.ref h1, v1, v2, v3, v4, v5])), (h1, .inl (dA, 32, .inl (upd f ((i + 0) % 32) (nI (a % 2147483648)))))] H := hP
  have hD : va_D A [(h0, .inr (3, [.ref h1, v1, v2, v3, v4, v5])), (h1, .inl (dA, 32, .inl (upd f ((i + 0) % 32) (nI (a % 2147483648)))))] := hD
  refine lv_iinc (v := (nI 1)) (lv' := [(6, .int (nI 1)), (0, .ref h0), (1, .int (nI i)), (2, .int (nI a)), (3, .int (nI b)), (4, .int (nI c1)), (5, .int (nI d))]) hx hb dX3_weight_56 hl (k := 0) rfl (nI_1 _) (by decide) rfl (fun ls hl => ?_)
  refine lv_goto (tgt := 3) hx hb dX3_weight_59 (by decide) ?_
  refine lv_iload hx hb dX3_weight_3 (lv_at hl 0 rfl) ?_
  refine lv_iconst (v := nI 4) hx hb dX3_weight_5 (by decide) ?_
  refine tc_icmp_ge hx hb 62 dX3_weight_6 (by decide) (by omega) (by omega) (fun c9 => absurd c9 (by omega)) (fun _ => ?_)
  refine lv_aload_n hx hb dX3_weight_9 rfl (lv_at hl 1 rfl) ?_
  refine va_get (D := D) (ci := 3) (v := .ref h1) (C := RX3) (T := TX3) (N := 6) hx hb hts in_X3 hown hK hP 0 rfl rfl 0 (by decide) (hts _ q117) (fun _ h9 => h9) rfl dX3_weight_10 ?_
  refine lv_iload_n hx hb dX3_weight_13 rfl (lv_at hl 2 rfl) ?_
  refine lv_iload hx hb dX3_weight_14 (lv_at hl 0 rfl) ?_
  refine tc_iadd hx hb dX3_weight_16 ?_
  refine lv_bipush (v := nI 31) hx hb dX3_weight_17 (by decide) ?_
  refine lv_iand hx hb dX3_weight_19 (tc_toi _ (tc_and31 _) ?_)
  refine lv_iload hx hb dX3_weight_20 (lv_at hl 0 rfl) ?_
  refine tc_if_ne hx hb 29 dX3_weight_22 (by decide) (by omega) (fun _ => ?_) (fun c9 => absurd c9 (by omega))
  refine lv_iload hx hb dX3_weight_29 (lv_at hl 0 rfl) ?_
  refine lv_iconst (v := nI 1) hx hb dX3_weight_31 (by decide) ?_
  refine tc_icmp_ne hx hb 39 dX3_weight_32 (by decide) (by omega) (by omega) (fun c9 => absurd c9 (by omega)) (fun _ => ?_)
  refine lv_iload_n hx hb dX3_weight_35 rfl (lv_at hl 4 rfl) ?_
  refine lv_goto (tgt := 52) hx hb dX3_weight_36 (by decide) ?_
  refine lv_ldc (v := 2147483647) hx hb hown (hts _ q140) dX3_weight_52 ?_
  refine lv_iand hx hb dX3_weight_54 (tc_toi _ (tc_andM _) ?_)
  refine tc_iast hx hb hK hP hD hS 1 0 rfl rfl (by omega) (by decide) dX3_weight_55 (fun H locs hP hD hS => ?_)
  have hP : va_P D vwCl [(h0, .inr (3, [.ref h1, v1, v2, v3, v4, v5])), (h1, .inl (dA, 32, .inl (upd (upd f ((i + 0) % 32) (nI (a % 2147483648))) ((i + 1) % 32) (nI (b % 2147483648)))))] H := hP
  have hD : va_D A [(h0, .inr (3, [.ref h1, v1, v2, v3, v4, v5])), (h1, .inl (dA, 32, .inl (upd (upd f ((i + 0) % 32) (nI (a % 2147483648))) ((i + 1) % 32) (nI (b % 2147483648)))))] := hD
  refine lv_iinc (v := (nI 2)) (lv' := [(6, .int (nI 2)), (0, .ref h0), (1, .int (nI i)), (2, .int (nI a)), (3, .int (nI b)), (4, .int (nI c1)), (5, .int (nI d))]) hx hb dX3_weight_56 hl (k := 0) rfl (nI_1 _) (by decide) rfl (fun ls hl => ?_)
  refine lv_goto (tgt := 3) hx hb dX3_weight_59 (by decide) ?_
  refine lv_iload hx hb dX3_weight_3 (lv_at hl 0 rfl) ?_
  refine lv_iconst (v := nI 4) hx hb dX3_weight_5 (by decide) ?_
  refine tc_icmp_ge hx hb 62 dX3_weight_6 (by decide) (by omega) (by omega) (fun c9 => absurd c9 (by omega)) (fun _ => ?_)
  refine lv_aload_n hx hb dX3_weight_9 rfl (lv_at hl 1 rfl) ?_
  refine va_get (D := D) (ci := 3) (v := .ref h1) (C := RX3) (T := TX3) (N := 6) hx hb hts in_X3 hown hK hP 0 rfl rfl 0 (by decide) (hts _ q117) (fun _ h9 => h9) rfl dX3_weight_10 ?_
  refine lv_iload_n hx hb dX3_weight_13 rfl (lv_at hl 2 rfl) ?_
  refine lv_iload hx hb dX3_weight_14 (lv_at hl 0 rfl) ?_
  refine tc_iadd hx hb dX3_weight_16 ?_
  refine lv_bipush (v := nI 31) hx hb dX3_weight_17 (by decide) ?_
  refine lv_iand hx hb dX3_weight_19 (tc_toi _ (tc_and31 _) ?_)
  refine lv_iload hx hb dX3_weight_20 (lv_at hl 0 rfl) ?_
  refine tc_if_ne hx hb 29 dX3_weight_22 (by decide) (by omega) (fun _ => ?_) (fun c9 => absurd c9 (by omega))
  refine lv_iload hx hb dX3_weight_29 (lv_at hl 0 rfl) ?_
  refine lv_iconst (v := nI 1) hx hb dX3_weight_31 (by decide) ?_
  refine tc_icmp_ne hx hb 39 dX3_weight_32 (by decide) (by omega) (by omega) (fun _ => ?_) (fun c9 => absurd c9 (by omega))
  refine lv_iload hx hb dX3_weight_39 (lv_at hl 0 rfl) ?_
  refine lv_iconst (v := nI 2) hx hb dX3_weight_41 (by decide) ?_
  refine tc_icmp_ne hx hb 50 dX3_weight_42 (by decide) (by omega) (by omega) (fun c9 => absurd c9 (by omega)) (fun _ => ?_)
  refine lv_iload hx hb dX3_weight_45 (lv_at hl 5 rfl) ?_
  refine lv_goto (tgt := 52) hx hb dX3_weight_47 (by decide) ?_
  refine lv_ldc (v := 2147483647) hx hb hown (hts _ q140) dX3_weight_52 ?_
  refine lv_iand hx hb dX3_weight_54 (tc_toi _ (tc_andM _) ?_)
  refine tc_iast hx hb hK hP hD hS 1 0 rfl rfl (by omega) (by decide) dX3_weight_55 (fun H locs hP hD hS => ?_)
  have hP : va_P D vwCl [(h0, .inr (3, [.ref h1, v1, v2, v3, v4, v5])), (h1, .inl (dA, 32, .inl (upd (upd (upd f ((i + 0) % 32) (nI (a % 2147483648))) ((i + 1) % 32) (nI (b % 2147483648))) ((i + 2) % 32) (nI (c1 % 2147483648)))))] H := hP
  have hD : va_D A [(h0, .inr (3, [.ref h1, v1, v2, v3, v4, v5])), (h1, .inl (dA, 32, .inl (upd (upd (upd f ((i + 0) % 32) (nI (a % 2147483648))) ((i + 1) % 32) (nI (b % 2147483648))) ((i + 2) % 32) (nI (c1 % 2147483648)))))] := hD
  refine lv_iinc (v := (nI 3)) (lv' := [(6, .int (nI 3)), (0, .ref h0), (1, .int (nI i)), (2, .int (nI a)), (3, .int (nI b)), (4, .int (nI c1)), (5, .int (nI d))]) hx hb dX3_weight_56 hl (k := 0) rfl (nI_1 _) (by decide) rfl (fun ls hl => ?_)
  refine lv_goto (tgt := 3) hx hb dX3_weight_59 (by decide) ?_
  refine lv_iload hx hb dX3_weight_3 (lv_at hl 0 rfl) ?_
  refine lv_iconst (v := nI 4) hx hb dX3_weight_5 (by decide) ?_
  refine tc_icmp_ge hx hb 62 dX3_weight_6 (by decide) (by omega) (by omega) (fun c9 => absurd c9 (by omega)) (fun _ => ?_)
  refine lv_aload_n hx hb dX3_weight_9 rfl (lv_at hl 1 rfl) ?_
  refine va_get (D := D) (ci := 3) (v := .ref h1) (C := RX3) (T := TX3) (N := 6) hx hb hts in_X3 hown hK hP 0 rfl rfl 0 (by decide) (hts _ q117) (fun _ h9 => h9) rfl dX3_weight_10 ?_
  refine lv_iload_n hx hb dX3_weight_13 rfl (lv_at hl 2 rfl) ?_
  refine lv_iload hx hb dX3_weight_14 (lv_at hl 0 rfl) ?_
  refine tc_iadd hx hb dX3_weight_16 ?_
  refine lv_bipush (v := nI 31) hx hb dX3_weight_17 (by decide) ?_
  refine lv_iand hx hb dX3_weight_19 (tc_toi _ (tc_and31 _) ?_)
  refine lv_iload hx hb dX3_weight_20 (lv_at hl 0 rfl) ?_
  refine tc_if_ne hx hb 29 dX3_weight_22 (by decide) (by omega) (fun _ => ?_) (fun c9 => absurd c9 (by omega))
  refine lv_iload hx hb dX3_weight_29 (lv_at hl 0 rfl) ?_
  refine lv_iconst (v := nI 1) hx hb dX3_weight_31 (by decide) ?_
  refine tc_icmp_ne hx hb 39 dX3_weight_32 (by decide) (by omega) (by omega) (fun _ => ?_) (fun c9 => absurd c9 (by omega))
  refine lv_iload hx hb dX3_weight_39 (lv_at hl 0 rfl) ?_
  refine lv_iconst (v := nI 2) hx hb dX3_weight_41 (by decide) ?_
  refine tc_icmp_ne hx hb 50 dX3_weight_42 (by decide) (by omega) (by omega) (fun _ => ?_) (fun c9 => absurd c9 (by omega))
  refine lv_iload hx hb dX3_weight_50 (lv_at hl 6 rfl) ?_
  refine lv_ldc (v := 2147483647) hx hb hown (hts _ q140) dX3_weight_52 ?_
  refine lv_iand hx hb dX3_weight_54 (tc_toi _ (tc_andM _) ?_)
  refine tc_iast hx hb hK hP hD hS 1 0 rfl rfl (by omega) (by decide) dX3_weight_55 (fun H locs hP hD hS => ?_)
  have hP : va_P D vwCl [(h0, .inr (3, [.ref h1, v1, v2, v3, v4, v5])), (h1, .inl (dA, 32, .inl (upd (upd (upd (upd f ((i + 0) % 32) (nI (a % 2147483648))) ((i + 1) % 32) (nI (b % 2147483648))) ((i + 2) % 32) (nI (c1 % 2147483648))) ((i + 3) % 32) (nI (d % 2147483648)))))] H := hP
  have hD : va_D A [(h0, .inr (3, [.ref h1, v1, v2, v3, v4, v5])), (h1, .inl (dA, 32, .inl (upd (upd (upd (upd f ((i + 0) % 32) (nI (a % 2147483648))) ((i + 1) % 32) (nI (b % 2147483648))) ((i + 2) % 32) (nI (c1 % 2147483648))) ((i + 3) % 32) (nI (d % 2147483648)))))] := hD
  refine lv_iinc (v := (nI 4)) (lv' := [(6, .int (nI 4)), (0, .ref h0), (1, .int (nI i)), (2, .int (nI a)), (3, .int (nI b)), (4, .int (nI c1)), (5, .int (nI d))]) hx hb dX3_weight_56 hl (k := 0) rfl (nI_1 _) (by decide) rfl (fun ls hl => ?_)
  refine lv_goto (tgt := 3) hx hb dX3_weight_59 (by decide) ?_
  refine lv_iload hx hb dX3_weight_3 (lv_at hl 0 rfl) ?_
  refine lv_iconst (v := nI 4) hx hb dX3_weight_5 (by decide) ?_
  refine tc_icmp_ge hx hb 62 dX3_weight_6 (by decide) (by omega) (by omega) (fun _ => ?_) (fun c9 => absurd c9 (by omega))
  have hP9 := hP.sub (ws' := [(h0, .inr (3, [.ref h1, v1, v2, v3, v4, v5])), (h1, .inl (dA, 32, .inl (upd (upd (upd (upd f ((i + 0) % 32) (nI (a % 2147483648))) ((i + 1) % 32) (nI (b % 2147483648))) ((i + 2) % 32) (nI (c1 % 2147483648))) ((i + 3) % 32) (nI (d % 2147483648)))))]) [0, 1] rfl
  have hD9 := hD.sub (ws' := [(h0, .inr (3, [.ref h1, v1, v2, v3, v4, v5])), (h1, .inl (dA, 32, .inl (upd (upd (upd (upd f ((i + 0) % 32) (nI (a % 2147483648))) ((i + 1) % 32) (nI (b % 2147483648))) ((i + 2) % 32) (nI (c1 % 2147483648))) ((i + 3) % 32) (nI (d % 2147483648)))))]) [0, 1] (by decide) rfl
  exact W.vret hx hb hr (fun t ht hW => ⟨⟨(), rfl, trivial, tc_end hP9 hK hD9 ht hW⟩, hS.F ht⟩) hS.2.2 dX3_weight_62
end
section
/-! CONSTRUCTORS -/
set_option maxHeartbeats 4000000 in
set_option maxRecDepth 100000 in
theorem met_init2 (l : Launch) (D : va_G) (dA dL : ClassId) (h0 : Nat) (sz : Nat)  : Met l yX2_init (ws_ yX2_init cX2_init 1 none) ({ frames := 1, cells := 1, slots := 1089, locals := 12 }) (va_Pc [.ref h0] (tc_Pre D dA dL [(h0, .inr (2, [.null]))] sz)) (va_Qv (fun _ : Nat => True) (fun u t => tc_B D dA dL (va_A [(h0, .inr (2, [.null]))] sz) [(h0, .inr (2, [.ref u])), (u, .inl (dL, 1089, .inr (.inl (fun _ => 0))))] t) (va_A [(h0, .inr (2, [.null]))] sz)) 1 1089 (va_A [(h0, .inr (2, [.null]))] sz) := by
  refine Met.ofW (cc := cX2_init) (maxL := 1) (ret := none) (by decide) rfl ?_
  intro p e s m args below meth c s₁ B hml hv
  obtain ⟨rfl, hsz, hP, hK, hD0⟩ := hv
  have hx := B.exec
  have hb := B.bytes
  have hr := B.returns
  have hts := atoms_spec (ws := ws_ yX2_init cX2_init 1 none) B.pre
  have hts : ∀ w ∈ lw_all, w.before _ s = true := fun w h => hts w (List.mem_cons_of_mem _ h)
  have hown : s.vm.findClass RX2 = some m.cls := findClass_of_methodNamed B.named
  have hlocks := B.notSynchronized
  have hin : meth.name = "<init>" := (name_of_methodNamed B.named B.method).1
  subst hsz
  have hD := hD0.self (sz := s.heap.size)
  generalize hAe : va_A [(h0, .inr (2, [.null]))] s.heap.size = A at hD ⊢
  have hA : ∀ q : Nat, s.heap.size ≤ q → A q := fun q h => by rw [← hAe]; exact Or.inr h
  have hS : va_S A s.heap s.heap [] := va_S.rf
  have hl := lv_entry ([.ref h0]) (n := 1) (Nat.le_of_ble_eq_true rfl)
  rw [lg_entry_eq]
  generalize (lg_sl ([.ref h0]) ++ List.replicate (1 - (lg_sl ([.ref h0])).length) Slot.unset).toArray = ls at hl ⊢
  have hl : lv_has ls 1 [(0, .ref h0)] := hl
  refine lv_aload_n hx hb dX2_init_0 rfl (lv_at hl 0 rfl) ?_
  refine W.objInit hx hb hown (hts _ q34) (hts _ q12) (hts _ q13) rfl (by rw [hml]; exact hl.1) rfl dX2_init_1 (Nat.le_of_ble_eq_true rfl) (Nat.le_of_ble_eq_true rfl) ?_
  refine W.eq (g2 := F0 m 4 ls []) rfl ?_
  refine lv_aload_n hx hb dX2_init_4 rfl (lv_at hl 0 rfl) ?_
  refine lv_sipush (v := nI 1089) hx hb dX2_init_5 (by decide) ?_
  refine va_newa (atype := .long) (a0 := (1089, .inr (.inl (fun _ => 0)))) (N' := 1089) hx hb (hts _ q28) rfl hK hP hD hS hA (fun cA => tc_new_l cA _) (nI_pos (by decide)) (nI_clamp (by decide)) (by decide) (by show _ ≤ 1; omega) (by show _ ≤ 1089; omega) dX2_init_8 (fun a1 cA H hK2 hP hD hS => ?_)
  have e9 := (tc_same_l hK2).symm
  subst e9
  have hP : va_P D vwCl [(h0, .inr (2, [.null])), (a1, .inl (dL, 1089, .inr (.inl (fun _ => 0))))] H := hP
  have hD : va_D A [(h0, .inr (2, [.null])), (a1, .inl (dL, 1089, .inr (.inl (fun _ => 0))))] := hD
  refine va_putF (D := D) (ci := 2) (v := .ref a1) (ty := .array .long) (C := RX2) (T := TX2) (N := 1) hx hb hts in_X2 tyX2 tyX2_ok nmX2 hown hK hP hD hS 0 rfl rfl 0 (by decide) (hts _ q35) (fun _ h9 => h9) rfl hin rfl (by decide +kernel) rfl rfl (Nat.le_of_ble_eq_true rfl) dX2_init_10 (fun H locs hP hD hS => ?_)
  have hP : va_P D vwCl [(h0, .inr (2, [.ref a1])), (a1, .inl (dL, 1089, .inr (.inl (fun _ => 0))))] H := hP
  have hD : va_D A [(h0, .inr (2, [.ref a1])), (a1, .inl (dL, 1089, .inr (.inl (fun _ => 0))))] := hD
  have hP9 := hP.sub (ws' := [(h0, .inr (2, [.ref a1])), (a1, .inl (dL, 1089, .inr (.inl (fun _ => 0))))]) [0, 1] rfl
  have hD9 := hD.sub (ws' := [(h0, .inr (2, [.ref a1])), (a1, .inl (dL, 1089, .inr (.inl (fun _ => 0))))]) [0, 1] (by decide) rfl
  refine W.widen (k := 1) (n := 1089) (by first | omega | (dsimp only; omega)) (by first | omega | (dsimp only; omega)) ?_
  exact W.vret hx hb hr (fun t ht hW => ⟨⟨a1, rfl, trivial, tc_end hP9 hK hD9 ht hW⟩, hS.F ht⟩) hS.2.2 dX2_init_13
set_option maxHeartbeats 4000000 in
set_option maxRecDepth 100000 in
theorem met_init1 (l : Launch) (D : va_G) (dA dL : ClassId) (h0 : Nat) (sz : Nat)  : Met l yX1_init (ws_ yX1_init cX1_init 1 none) ({ frames := 1, cells := 2, slots := 65, locals := 12 }) (va_Pc [.ref h0] (tc_Pre D dA dL [(h0, .inr (1, [.null, .null]))] sz)) (va_Qv (fun _ : Nat × Nat => True) (fun u t => tc_B D dA dL (va_A [(h0, .inr (1, [.null, .null]))] sz) [(h0, .inr (1, [.ref u.1, .ref u.2])), (u.1, .inl (dA, 32, .inl (fun _ => 0))), (u.2, .inl (dL, 33, .inr (.inl (fun _ => 0))))] t) (va_A [(h0, .inr (1, [.null, .null]))] sz)) 2 65 (va_A [(h0, .inr (1, [.null, .null]))] sz) := by
  refine Met.ofW (cc := cX1_init) (maxL := 1) (ret := none) (by decide) rfl ?_
  intro p e s m args below meth c s₁ B hml hv
  obtain ⟨rfl, hsz, hP, hK, hD0⟩ := hv
  have hx := B.exec
  have hb := B.bytes
  have hr := B.returns
  have hts := atoms_spec (ws := ws_ yX1_init cX1_init 1 none) B.pre
  have hts : ∀ w ∈ lw_all, w.before _ s = true := fun w h => hts w (List.mem_cons_of_mem _ h)
  have hown : s.vm.findClass RX1 = some m.cls := findClass_of_methodNamed B.named
  have hlocks := B.notSynchronized
  have hin : meth.name = "<init>" := (name_of_methodNamed B.named B.method).1
  subst hsz
  have hD := hD0.self (sz := s.heap.size)
  generalize hAe : va_A [(h0, .inr (1, [.null, .null]))] s.heap.size = A at hD ⊢
  have hA : ∀ q : Nat, s.heap.size ≤ q → A q := fun q h => by rw [← hAe]; exact Or.inr h
  have hS : va_S A s.heap s.heap [] := va_S.rf
  have hl := lv_entry ([.ref h0]) (n := 1) (Nat.le_of_ble_eq_true rfl)
  rw [lg_entry_eq]
  generalize (lg_sl ([.ref h0]) ++ List.replicate (1 - (lg_sl ([.ref h0])).length) Slot.unset).toArray = ls at hl ⊢
  have hl : lv_has ls 1 [(0, .ref h0)] := hl
  refine lv_aload_n hx hb dX1_init_0 rfl (lv_at hl 0 rfl) ?_
  refine W.objInit hx hb hown (hts _ q19) (hts _ q12) (hts _ q13) rfl (by rw [hml]; exact hl.1) rfl dX1_init_1 (Nat.le_of_ble_eq_true rfl) (Nat.le_of_ble_eq_true rfl) ?_
  refine W.eq (g2 := F0 m 4 ls []) rfl ?_
  refine lv_aload_n hx hb dX1_init_4 rfl (lv_at hl 0 rfl) ?_
  refine lv_bipush (v := nI 32) hx hb dX1_init_5 (by decide) ?_
  refine va_newa (atype := .int) (a0 := (32, .inl (fun _ => 0))) (N' := 32) hx hb (hts _ q27) rfl hK hP hD hS hA (fun cA => tc_new_i cA _) (nI_pos (by decide)) (nI_clamp (by decide)) (by decide) (by show _ ≤ 2; omega) (by show _ ≤ 65; omega) dX1_init_7 (fun a1 cA H hK2 hP hD hS => ?_)
  have e9 := (tc_same_i hK2).symm
  subst e9
  have hP : va_P D vwCl [(h0, .inr (1, [.null, .null])), (a1, .inl (dA, 32, .inl (fun _ => 0)))] H := hP
  have hD : va_D A [(h0, .inr (1, [.null, .null])), (a1, .inl (dA, 32, .inl (fun _ => 0)))] := hD
  refine va_putF (D := D) (ci := 1) (v := .ref a1) (ty := .array .int) (C := RX1) (T := TX1) (N := 2) hx hb hts in_X1 tyX1 tyX1_ok nmX1 hown hK hP hD hS 0 rfl rfl 0 (by decide) (hts _ q20) (fun _ h9 => h9) rfl hin rfl (by decide +kernel) rfl rfl (Nat.le_of_ble_eq_true rfl) dX1_init_9 (fun H locs hP hD hS => ?_)
  have hP : va_P D vwCl [(h0, .inr (1, [.ref a1, .null])), (a1, .inl (dA, 32, .inl (fun _ => 0)))] H := hP
  have hD : va_D A [(h0, .inr (1, [.ref a1, .null])), (a1, .inl (dA, 32, .inl (fun _ => 0)))] := hD
  refine lv_aload_n hx hb dX1_init_12 rfl (lv_at hl 0 rfl) ?_
  refine lv_bipush (v := nI 33) hx hb dX1_init_13 (by decide) ?_
  refine va_newa (atype := .long) (a0 := (33, .inr (.inl (fun _ => 0)))) (N' := 33) hx hb (hts _ q28) rfl hK hP hD hS hA (fun cA => tc_new_l cA _) (nI_pos (by decide)) (nI_clamp (by decide)) (by decide) (by show _ ≤ 2; omega) (by show _ ≤ 65; omega) dX1_init_15 (fun a2 cA H hK2 hP hD hS => ?_)
  have e9 := (tc_same_l hK2).symm
  subst e9
  have hP : va_P D vwCl [(h0, .inr (1, [.ref a1, .null])), (a1, .inl (dA, 32, .inl (fun _ => 0))), (a2, .inl (dL, 33, .inr (.inl (fun _ => 0))))] H := hP
  have hD : va_D A [(h0, .inr (1, [.ref a1, .null])), (a1, .inl (dA, 32, .inl (fun _ => 0))), (a2, .inl (dL, 33, .inr (.inl (fun _ => 0))))] := hD
  refine va_putF (D := D) (ci := 1) (v := .ref a2) (ty := .array .long) (C := RX1) (T := TX1) (N := 2) hx hb hts in_X1 tyX1 tyX1_ok nmX1 hown hK hP hD hS 0 rfl rfl 1 (by decide) (hts _ q21) (fun _ h9 => h9) rfl hin rfl (by decide +kernel) rfl rfl (Nat.le_of_ble_eq_true rfl) dX1_init_17 (fun H locs hP hD hS => ?_)
  have hP : va_P D vwCl [(h0, .inr (1, [.ref a1, .ref a2])), (a1, .inl (dA, 32, .inl (fun _ => 0))), (a2, .inl (dL, 33, .inr (.inl (fun _ => 0))))] H := hP
  have hD : va_D A [(h0, .inr (1, [.ref a1, .ref a2])), (a1, .inl (dA, 32, .inl (fun _ => 0))), (a2, .inl (dL, 33, .inr (.inl (fun _ => 0))))] := hD
  have hP9 := hP.sub (ws' := [(h0, .inr (1, [.ref a1, .ref a2])), (a1, .inl (dA, 32, .inl (fun _ => 0))), (a2, .inl (dL, 33, .inr (.inl (fun _ => 0))))]) [0, 1, 2] rfl
  have hD9 := hD.sub (ws' := [(h0, .inr (1, [.ref a1, .ref a2])), (a1, .inl (dA, 32, .inl (fun _ => 0))), (a2, .inl (dL, 33, .inr (.inl (fun _ => 0))))]) [0, 1, 2] (by decide) rfl
  refine W.widen (k := 2) (n := 65) (by first | omega | (dsimp only; omega)) (by first | omega | (dsimp only; omega)) ?_
  exact W.vret hx hb hr (fun t ht hW => ⟨⟨(a1, a2), rfl, trivial, tc_end hP9 hK hD9 ht hW⟩, hS.F ht⟩) hS.2.2 dX1_init_20
set_option maxHeartbeats 4000000 in
set_option maxRecDepth 100000 in
theorem met_init3 (l : Launch) (D : va_G) (dA dL : ClassId) (h0 : Nat) (sz : Nat)  : Met l yX3_init (ws_ yX3_init cX3_init 1 none) ({ frames := 1, cells := 4, slots := 642, locals := 12 }) (va_Pc [.ref h0] (tc_Pre D dA dL [(h0, .inr (3, [.null, .int 0, .int 0, .null, .null, .null]))] sz)) (va_Qv (fun _ : Unit => True) (fun _ t => ∃ aw ab an ao : Nat, tc_B D dA dL (va_A [(h0, .inr (3, [.null, .int 0, .int 0, .null, .null, .null]))] sz) [(h0, .inr (3, [.ref aw, .int (nI 2), .int (nI 5), .ref ab, .ref an, .ref ao])), (aw, .inl (dA, 32, .inl (fun _ => 0))), (ab, .inl (dL, 289, .inr (.inl (fun _ => 0)))), (an, .inl (dL, 289, .inr (.inl (fun _ => 0)))), (ao, .inl (dA, 32, .inl (fun _ => 0)))] t) (va_A [(h0, .inr (3, [.null, .int 0, .int 0, .null, .null, .null]))] sz)) 4 642 (va_A [(h0, .inr (3, [.null, .int 0, .int 0, .null, .null, .null]))] sz) := by
  refine Met.ofW (cc := cX3_init) (maxL := 1) (ret := none) (by decide) rfl ?_
  intro p e s m args below meth c s₁ B hml hv
  obtain ⟨rfl, hsz, hP, hK, hD0⟩ := hv
  have hx := B.exec
  have hb := B.bytes
  have hr := B.returns
  have hts := atoms_spec (ws := ws_ yX3_init cX3_init 1 none) B.pre
  have hts : ∀ w ∈ lw_all, w.before _ s = true := fun w h => hts w (List.mem_cons_of_mem _ h)
  have hown : s.vm.findClass RX3 = some m.cls := findClass_of_methodNamed B.named
  have hlocks := B.notSynchronized
  have hin : meth.name = "<init>" := (name_of_methodNamed B.named B.method).1
  subst hsz
  have hD := hD0.self (sz := s.heap.size)
  generalize hAe : va_A [(h0, .inr (3, [.null, .int 0, .int 0, .null, .null, .null]))] s.heap.size = A at hD ⊢
  have hA : ∀ q : Nat, s.heap.size ≤ q → A q := fun q h => by rw [← hAe]; exact Or.inr h
  have hS : va_S A s.heap s.heap [] := va_S.rf
  have hl := lv_entry ([.ref h0]) (n := 1) (Nat.le_of_ble_eq_true rfl)
  rw [lg_entry_eq]
  generalize (lg_sl ([.ref h0]) ++ List.replicate (1 - (lg_sl ([.ref h0])).length) Slot.unset).toArray = ls at hl ⊢
  have hl : lv_has ls 1 [(0, .ref h0)] := hl
  refine lv_aload_n hx hb dX3_init_0 rfl (lv_at hl 0 rfl) ?_
  refine W.objInit hx hb hown (hts _ q116) (hts _ q12) (hts _ q13) rfl (by rw [hml]; exact hl.1) rfl dX3_init_1 (Nat.le_of_ble_eq_true rfl) (Nat.le_of_ble_eq_true rfl) ?_
  refine W.eq (g2 := F0 m 4 ls []) rfl ?_
  refine lv_aload_n hx hb dX3_init_4 rfl (lv_at hl 0 rfl) ?_
  refine lv_bipush (v := nI 32) hx hb dX3_init_5 (by decide) ?_
  refine va_newa (atype := .int) (a0 := (32, .inl (fun _ => 0))) (N' := 32) hx hb (hts _ q27) rfl hK hP hD hS hA (fun cA => tc_new_i cA _) (nI_pos (by decide)) (nI_clamp (by decide)) (by decide) (by show _ ≤ 4; omega) (by show _ ≤ 642; omega) dX3_init_7 (fun aw cA H hK2 hP hD hS => ?_)
  have e9 := (tc_same_i hK2).symm
  subst e9
  have hP : va_P D vwCl [(h0, .inr (3, [.null, .int 0, .int 0, .null, .null, .null])), (aw, .inl (dA, 32, .inl (fun _ => 0)))] H := hP
  have hD : va_D A [(h0, .inr (3, [.null, .int 0, .int 0, .null, .null, .null])), (aw, .inl (dA, 32, .inl (fun _ => 0)))] := hD
  refine va_putF (D := D) (ci := 3) (v := .ref aw) (ty := .array .int) (C := RX3) (T := TX3) (N := 6) hx hb hts in_X3 tyX3 tyX3_ok nmX3 hown hK hP hD hS 0 rfl rfl 0 (by decide) (hts _ q117) (fun _ h9 => h9) rfl hin rfl (by decide +kernel) rfl rfl (Nat.le_of_ble_eq_true rfl) dX3_init_9 (fun H locs hP hD hS => ?_)
  have hP : va_P D vwCl [(h0, .inr (3, [.ref aw, .int 0, .int 0, .null, .null, .null])), (aw, .inl (dA, 32, .inl (fun _ => 0)))] H := hP
  have hD : va_D A [(h0, .inr (3, [.ref aw, .int 0, .int 0, .null, .null, .null])), (aw, .inl (dA, 32, .inl (fun _ => 0)))] := hD
  refine lv_aload_n hx hb dX3_init_12 rfl (lv_at hl 0 rfl) ?_
  refine lv_iconst (v := nI 2) hx hb dX3_init_13 (by decide) ?_
  refine va_put (D := D) (ci := 3) (v := .int (nI 2)) (ty := .int) (C := RX3) (T := TX3) (N := 6) hx hb hts in_X3 tyX3 tyX3_ok nmX3 hown hK hP hD hS 0 rfl rfl 1 (by decide) (hts _ q118) (fun _ h9 => h9) rfl (by decide +kernel) rfl rfl (Nat.le_of_ble_eq_true rfl) dX3_init_14 (fun H locs hP hD hS => ?_)
  have hP : va_P D vwCl [(h0, .inr (3, [.ref aw, .int (nI 2), .int 0, .null, .null, .null])), (aw, .inl (dA, 32, .inl (fun _ => 0)))] H := hP
  have hD : va_D A [(h0, .inr (3, [.ref aw, .int (nI 2), .int 0, .null, .null, .null])), (aw, .inl (dA, 32, .inl (fun _ => 0)))] := hD
  refine lv_aload_n hx hb dX3_init_17 rfl (lv_at hl 0 rfl) ?_
  refine lv_iconst (v := nI 5) hx hb dX3_init_18 (by decide) ?_
  refine va_put (D := D) (ci := 3) (v := .int (nI 5)) (ty := .int) (C := RX3) (T := TX3) (N := 6) hx hb hts in_X3 tyX3 tyX3_ok nmX3 hown hK hP hD hS 0 rfl rfl 2 (by decide) (hts _ q119) (fun _ h9 => h9) rfl (by decide +kernel) rfl rfl (Nat.le_of_ble_eq_true rfl) dX3_init_19 (fun H locs hP hD hS => ?_)
  have hP : va_P D vwCl [(h0, .inr (3, [.ref aw, .int (nI 2), .int (nI 5), .null, .null, .null])), (aw, .inl (dA, 32, .inl (fun _ => 0)))] H := hP
  have hD : va_D A [(h0, .inr (3, [.ref aw, .int (nI 2), .int (nI 5), .null, .null, .null])), (aw, .inl (dA, 32, .inl (fun _ => 0)))] := hD
  refine lv_aload_n hx hb dX3_init_22 rfl (lv_at hl 0 rfl) ?_
  refine lv_sipush (v := nI 289) hx hb dX3_init_23 (by decide) ?_
  refine va_newa (atype := .long) (a0 := (289, .inr (.inl (fun _ => 0)))) (N' := 289) hx hb (hts _ q28) rfl hK hP hD hS hA (fun cA => tc_new_l cA _) (nI_pos (by decide)) (nI_clamp (by decide)) (by decide) (by show _ ≤ 4; omega) (by show _ ≤ 642; omega) dX3_init_26 (fun ab cA H hK2 hP hD hS => ?_)
  have e9 := (tc_same_l hK2).symm
  subst e9
  have hP : va_P D vwCl [(h0, .inr (3, [.ref aw, .int (nI 2), .int (nI 5), .null, .null, .null])), (aw, .inl (dA, 32, .inl (fun _ => 0))), (ab, .inl (dL, 289, .inr (.inl (fun _ => 0))))] H := hP
  have hD : va_D A [(h0, .inr (3, [.ref aw, .int (nI 2), .int (nI 5), .null, .null, .null])), (aw, .inl (dA, 32, .inl (fun _ => 0))), (ab, .inl (dL, 289, .inr (.inl (fun _ => 0))))] := hD
  refine va_putF (D := D) (ci := 3) (v := .ref ab) (ty := .array .long) (C := RX3) (T := TX3) (N := 6) hx hb hts in_X3 tyX3 tyX3_ok nmX3 hown hK hP hD hS 0 rfl rfl 3 (by decide) (hts _ q120) (fun _ h9 => h9) rfl hin rfl (by decide +kernel) rfl rfl (Nat.le_of_ble_eq_true rfl) dX3_init_28 (fun H locs hP hD hS => ?_)
  have hP : va_P D vwCl [(h0, .inr (3, [.ref aw, .int (nI 2), .int (nI 5), .ref ab, .null, .null])), (aw, .inl (dA, 32, .inl (fun _ => 0))), (ab, .inl (dL, 289, .inr (.inl (fun _ => 0))))] H := hP
  have hD : va_D A [(h0, .inr (3, [.ref aw, .int (nI 2), .int (nI 5), .ref ab, .null, .null])), (aw, .inl (dA, 32, .inl (fun _ => 0))), (ab, .inl (dL, 289, .inr (.inl (fun _ => 0))))] := hD
  refine lv_aload_n hx hb dX3_init_31 rfl (lv_at hl 0 rfl) ?_
  refine lv_sipush (v := nI 289) hx hb dX3_init_32 (by decide) ?_
  refine va_newa (atype := .long) (a0 := (289, .inr (.inl (fun _ => 0)))) (N' := 289) hx hb (hts _ q28) rfl hK hP hD hS hA (fun cA => tc_new_l cA _) (nI_pos (by decide)) (nI_clamp (by decide)) (by decide) (by show _ ≤ 4; omega) (by show _ ≤ 642; omega) dX3_init_35 (fun an cA H hK2 hP hD hS => ?_)
  have e9 := (tc_same_l hK2).symm
  subst e9
  have hP : va_P D vwCl [(h0, .inr (3, [.ref aw, .int (nI 2), .int (nI 5), .ref ab, .null, .null])), (aw, .inl (dA, 32, .inl (fun _ => 0))), (ab, .inl (dL, 289, .inr (.inl (fun _ => 0)))), (an, .inl (dL, 289, .inr (.inl (fun _ => 0))))] H := hP
  have hD : va_D A [(h0, .inr (3, [.ref aw, .int (nI 2), .int (nI 5), .ref ab, .null, .null])), (aw, .inl (dA, 32, .inl (fun _ => 0))), (ab, .inl (dL, 289, .inr (.inl (fun _ => 0)))), (an, .inl (dL, 289, .inr (.inl (fun _ => 0))))] := hD
  refine va_putF (D := D) (ci := 3) (v := .ref an) (ty := .array .long) (C := RX3) (T := TX3) (N := 6) hx hb hts in_X3 tyX3 tyX3_ok nmX3 hown hK hP hD hS 0 rfl rfl 4 (by decide) (hts _ q121) (fun _ h9 => h9) rfl hin rfl (by decide +kernel) rfl rfl (Nat.le_of_ble_eq_true rfl) dX3_init_37 (fun H locs hP hD hS => ?_)
  have hP : va_P D vwCl [(h0, .inr (3, [.ref aw, .int (nI 2), .int (nI 5), .ref ab, .ref an, .null])), (aw, .inl (dA, 32, .inl (fun _ => 0))), (ab, .inl (dL, 289, .inr (.inl (fun _ => 0)))), (an, .inl (dL, 289, .inr (.inl (fun _ => 0))))] H := hP
  have hD : va_D A [(h0, .inr (3, [.ref aw, .int (nI 2), .int (nI 5), .ref ab, .ref an, .null])), (aw, .inl (dA, 32, .inl (fun _ => 0))), (ab, .inl (dL, 289, .inr (.inl (fun _ => 0)))), (an, .inl (dL, 289, .inr (.inl (fun _ => 0))))] := hD
  refine lv_aload_n hx hb dX3_init_40 rfl (lv_at hl 0 rfl) ?_
  refine lv_bipush (v := nI 32) hx hb dX3_init_41 (by decide) ?_
  refine va_newa (atype := .int) (a0 := (32, .inl (fun _ => 0))) (N' := 32) hx hb (hts _ q27) rfl hK hP hD hS hA (fun cA => tc_new_i cA _) (nI_pos (by decide)) (nI_clamp (by decide)) (by decide) (by show _ ≤ 4; omega) (by show _ ≤ 642; omega) dX3_init_43 (fun ao cA H hK2 hP hD hS => ?_)
  have e9 := (tc_same_i hK2).symm
  subst e9
  have hP : va_P D vwCl [(h0, .inr (3, [.ref aw, .int (nI 2), .int (nI 5), .ref ab, .ref an, .null])), (aw, .inl (dA, 32, .inl (fun _ => 0))), (ab, .inl (dL, 289, .inr (.inl (fun _ => 0)))), (an, .inl (dL, 289, .inr (.inl (fun _ => 0)))), (ao, .inl (dA, 32, .inl (fun _ => 0)))] H := hP
  have hD : va_D A [(h0, .inr (3, [.ref aw, .int (nI 2), .int (nI 5), .ref ab, .ref an, .null])), (aw, .inl (dA, 32, .inl (fun _ => 0))), (ab, .inl (dL, 289, .inr (.inl (fun _ => 0)))), (an, .inl (dL, 289, .inr (.inl (fun _ => 0)))), (ao, .inl (dA, 32, .inl (fun _ => 0)))] := hD
  refine va_putF (D := D) (ci := 3) (v := .ref ao) (ty := .array .int) (C := RX3) (T := TX3) (N := 6) hx hb hts in_X3 tyX3 tyX3_ok nmX3 hown hK hP hD hS 0 rfl rfl 5 (by decide) (hts _ q122) (fun _ h9 => h9) rfl hin rfl (by decide +kernel) rfl rfl (Nat.le_of_ble_eq_true rfl) dX3_init_45 (fun H locs hP hD hS => ?_)
  have hP : va_P D vwCl [(h0, .inr (3, [.ref aw, .int (nI 2), .int (nI 5), .ref ab, .ref an, .ref ao])), (aw, .inl (dA, 32, .inl (fun _ => 0))), (ab, .inl (dL, 289, .inr (.inl (fun _ => 0)))), (an, .inl (dL, 289, .inr (.inl (fun _ => 0)))), (ao, .inl (dA, 32, .inl (fun _ => 0)))] H := hP
  have hD : va_D A [(h0, .inr (3, [.ref aw, .int (nI 2), .int (nI 5), .ref ab, .ref an, .ref ao])), (aw, .inl (dA, 32, .inl (fun _ => 0))), (ab, .inl (dL, 289, .inr (.inl (fun _ => 0)))), (an, .inl (dL, 289, .inr (.inl (fun _ => 0)))), (ao, .inl (dA, 32, .inl (fun _ => 0)))] := hD
  have hP9 := hP.sub (ws' := [(h0, .inr (3, [.ref aw, .int (nI 2), .int (nI 5), .ref ab, .ref an, .ref ao])), (aw, .inl (dA, 32, .inl (fun _ => 0))), (ab, .inl (dL, 289, .inr (.inl (fun _ => 0)))), (an, .inl (dL, 289, .inr (.inl (fun _ => 0)))), (ao, .inl (dA, 32, .inl (fun _ => 0)))]) [0, 1, 2, 3, 4] rfl
  have hD9 := hD.sub (ws' := [(h0, .inr (3, [.ref aw, .int (nI 2), .int (nI 5), .ref ab, .ref an, .ref ao])), (aw, .inl (dA, 32, .inl (fun _ => 0))), (ab, .inl (dL, 289, .inr (.inl (fun _ => 0)))), (an, .inl (dL, 289, .inr (.inl (fun _ => 0)))), (ao, .inl (dA, 32, .inl (fun _ => 0)))]) [0, 1, 2, 3, 4] (by decide) rfl
  refine W.widen (k := 4) (n := 642) (by first | omega | (dsimp only; omega)) (by first | omega | (dsimp only; omega)) ?_
  exact W.vret hx hb hr (fun t ht hW => ⟨⟨(), rfl, trivial, ⟨aw, ab, an, ao, tc_end hP9 hK hD9 ht hW⟩⟩, hS.F ht⟩) hS.2.2 dX3_init_48
set_option maxHeartbeats 4000000 in
set_option maxRecDepth 100000 in
theorem met_init0 (l : Launch) (D : va_G) (dA dL : ClassId) (h0 : Nat) (sz : Nat)  : Met l yX0_init (ws_ yX0_init cX0_init 1 none) ({ frames := 2, cells := 8, slots := 2279, locals := 32 }) (va_Pc [.ref h0] (fun U => tc_Pre D dA dL [(h0, .inr (0, [.null, .int 0, .int 0, .null, .null, .null]))] sz U ∧ va_Nw (.methodLinkNest RX0 24 yX1_init "TrimCodes") U ∧ va_Nw (.methodLinkNest RX0 31 yX2_init "TrimCodes") U)) (va_Qv (fun _ : Unit => True) (fun _ t => ∃ aw as ao au an anc ax axc : Nat, tc_B D dA dL (va_A [(h0, .inr (0, [.null, .int 0, .int 0, .null, .null, .null]))] sz) [(h0, .inr (0, [.ref aw, .int (nI 2), .int (nI 5), .ref as, .ref an, .ref ax])), (aw, .inl (dA, 32, .inl (fun _ => 0))), (as, .inr (1, [.ref ao, .ref au])), (ao, .inl (dA, 32, .inl (fun _ => 0))), (au, .inl (dL, 33, .inr (.inl (fun _ => 0)))), (an, .inr (2, [.ref anc])), (anc, .inl (dL, 1089, .inr (.inl (fun _ => 0)))), (ax, .inr (2, [.ref axc])), (axc, .inl (dL, 1089, .inr (.inl (fun _ => 0))))] t) (va_A [(h0, .inr (0, [.null, .int 0, .int 0, .null, .null, .null]))] sz)) 8 2279 (va_A [(h0, .inr (0, [.null, .int 0, .int 0, .null, .null, .null]))] sz) := by
  refine Met.ofW (cc := cX0_init) (maxL := 1) (ret := none) (by decide) rfl ?_
  intro p e s m args below meth c s₁ B hml hv
  obtain ⟨rfl, ⟨hsz, hP, hK, hD0⟩, hN1, hN2⟩ := hv
  have hx := B.exec
  have hb := B.bytes
  have hr := B.returns
  have hts := atoms_spec (ws := ws_ yX0_init cX0_init 1 none) B.pre
  have hts : ∀ w ∈ lw_all, w.before _ s = true := fun w h => hts w (List.mem_cons_of_mem _ h)
  have hown : s.vm.findClass RX0 = some m.cls := findClass_of_methodNamed B.named
  have hlocks := B.notSynchronized
  have hin : meth.name = "<init>" := (name_of_methodNamed B.named B.method).1
  subst hsz
  have hD := hD0.self (sz := s.heap.size)
  generalize hAe : va_A [(h0, .inr (0, [.null, .int 0, .int 0, .null, .null, .null]))] s.heap.size = A at hD ⊢
  have hA : ∀ q : Nat, s.heap.size ≤ q → A q := fun q h => by rw [← hAe]; exact Or.inr h
  have hS : va_S A s.heap s.heap [] := va_S.rf
  have hl := lv_entry ([.ref h0]) (n := 1) (Nat.le_of_ble_eq_true rfl)
  rw [lg_entry_eq]
  generalize (lg_sl ([.ref h0]) ++ List.replicate (1 - (lg_sl ([.ref h0])).length) Slot.unset).toArray = ls at hl ⊢
  have hl : lv_has ls 1 [(0, .ref h0)] := hl
  refine lv_aload_n hx hb dX0_init_0 rfl (lv_at hl 0 rfl) ?_
  refine W.objInit hx hb hown (hts _ q11) (hts _ q12) (hts _ q13) rfl (by rw [hml]; exact hl.1) rfl dX0_init_1 (Nat.le_of_ble_eq_true rfl) (Nat.le_of_ble_eq_true rfl) ?_
  refine W.eq (g2 := F0 m 4 ls []) rfl ?_
  refine lv_aload_n hx hb dX0_init_4 rfl (lv_at hl 0 rfl) ?_
  refine lv_bipush (v := nI 32) hx hb dX0_init_5 (by decide) ?_
  refine va_newa (atype := .int) (a0 := (32, .inl (fun _ => 0))) (N' := 32) hx hb (hts _ q27) rfl hK hP hD hS hA (fun cA => tc_new_i cA _) (nI_pos (by decide)) (nI_clamp (by decide)) (by decide) (by show _ ≤ 8; omega) (by show _ ≤ 2279; omega) dX0_init_7 (fun aw cA H hK2 hP hD hS => ?_)
  have e9 := (tc_same_i hK2).symm
  subst e9
  have hP : va_P D vwCl [(h0, .inr (0, [.null, .int 0, .int 0, .null, .null, .null])), (aw, .inl (dA, 32, .inl (fun _ => 0)))] H := hP
  have hD : va_D A [(h0, .inr (0, [.null, .int 0, .int 0, .null, .null, .null])), (aw, .inl (dA, 32, .inl (fun _ => 0)))] := hD
  refine va_putF (D := D) (ci := 0) (v := .ref aw) (ty := .array .int) (C := RX0) (T := TX0) (N := 6) hx hb hts in_X0 tyX0 tyX0_ok nmX0 hown hK hP hD hS 0 rfl rfl 0 (by decide) (hts _ q39) (fun _ h9 => h9) rfl hin rfl (by decide +kernel) rfl rfl (Nat.le_of_ble_eq_true rfl) dX0_init_9 (fun H locs hP hD hS => ?_)
  have hP : va_P D vwCl [(h0, .inr (0, [.ref aw, .int 0, .int 0, .null, .null, .null])), (aw, .inl (dA, 32, .inl (fun _ => 0)))] H := hP
  have hD : va_D A [(h0, .inr (0, [.ref aw, .int 0, .int 0, .null, .null, .null])), (aw, .inl (dA, 32, .inl (fun _ => 0)))] := hD
  refine lv_aload_n hx hb dX0_init_12 rfl (lv_at hl 0 rfl) ?_
  refine lv_iconst (v := nI 2) hx hb dX0_init_13 (by decide) ?_
  refine va_put (D := D) (ci := 0) (v := .int (nI 2)) (ty := .int) (C := RX0) (T := TX0) (N := 6) hx hb hts in_X0 tyX0 tyX0_ok nmX0 hown hK hP hD hS 0 rfl rfl 1 (by decide) (hts _ q40) (fun _ h9 => h9) rfl (by decide +kernel) rfl rfl (Nat.le_of_ble_eq_true rfl) dX0_init_14 (fun H locs hP hD hS => ?_)
  have hP : va_P D vwCl [(h0, .inr (0, [.ref aw, .int (nI 2), .int 0, .null, .null, .null])), (aw, .inl (dA, 32, .inl (fun _ => 0)))] H := hP
  have hD : va_D A [(h0, .inr (0, [.ref aw, .int (nI 2), .int 0, .null, .null, .null])), (aw, .inl (dA, 32, .inl (fun _ => 0)))] := hD
  refine lv_aload_n hx hb dX0_init_17 rfl (lv_at hl 0 rfl) ?_
  refine lv_iconst (v := nI 5) hx hb dX0_init_18 (by decide) ?_
  refine va_put (D := D) (ci := 0) (v := .int (nI 5)) (ty := .int) (C := RX0) (T := TX0) (N := 6) hx hb hts in_X0 tyX0 tyX0_ok nmX0 hown hK hP hD hS 0 rfl rfl 2 (by decide) (hts _ q41) (fun _ h9 => h9) rfl (by decide +kernel) rfl rfl (Nat.le_of_ble_eq_true rfl) dX0_init_19 (fun H locs hP hD hS => ?_)
  have hP : va_P D vwCl [(h0, .inr (0, [.ref aw, .int (nI 2), .int (nI 5), .null, .null, .null])), (aw, .inl (dA, 32, .inl (fun _ => 0)))] H := hP
  have hD : va_D A [(h0, .inr (0, [.ref aw, .int (nI 2), .int (nI 5), .null, .null, .null])), (aw, .inl (dA, 32, .inl (fun _ => 0)))] := hD
  refine lv_aload_n hx hb dX0_init_22 rfl (lv_at hl 0 rfl) ?_
  refine va_new (ci := 1) (fs := [.null, .null]) (C := RX1) (T := TX1) (N := 2) hx hb hts in_X1 tyX1 tyX1_ok hown (hts _ q14) (hts _ q15) (hts _ q2) hK hP hD hS hA rfl (fun j hj => by rcases (show j = 0 ∨ j = 1 by omega) with rfl | rfl <;> rfl) (by show _ ≤ 8; omega) (by show _ ≤ 2279; omega) dX0_init_23 (fun as H hP hD hS => ?_)
  have hP : va_P D vwCl [(h0, .inr (0, [.ref aw, .int (nI 2), .int (nI 5), .null, .null, .null])), (aw, .inl (dA, 32, .inl (fun _ => 0))), (as, .inr (1, [.null, .null]))] H := hP
  have hD : va_D A [(h0, .inr (0, [.ref aw, .int (nI 2), .int (nI 5), .null, .null, .null])), (aw, .inl (dA, 32, .inl (fun _ => 0))), (as, .inr (1, [.null, .null]))] := hD
  refine lv_dup hx hb dX0_init_26 rfl ?_
  have hPc := hP.sub (ws' := [(as, .inr (1, [.null, .null]))]) [2] rfl
  have hDc := hD.sub (ws' := [(as, .inr (1, [.null, .null]))]) [2] (by decide) rfl
  have hFc := va_free (wc := [(as, .inr (1, [.null, .null]))]) hD hS hA [2] rfl
  refine va_callv (va_runIN (As := []) (rest := [.ref as, .ref h0]) ⟨hx, hb, hml, hown, hts⟩ (met_init1 l D dA dL as H.size) ⟨va_cnB 0 hts (lw_meth q18) rfl rfl rfl hN1 (hts _ q2) (by decide +kernel) ⟨Nat.le_of_ble_eq_true rfl, Nat.le_of_ble_eq_true rfl⟩, rfl, hts _ q17⟩ ⟨tc_blind, tc_pre hPc hK hDc⟩ rfl rfl hl.1 rfl (lv_room (Nat.le_of_ble_eq_true rfl)) dX0_init_27 ⟨by show _ ≤ 8; omega, by show _ ≤ 2279; omega⟩) hS (fun q _ h => hFc q h) hFc (fun u t9 H1 locs ht hvm hw hB hz1 hk1 hS => ?_)
  obtain ⟨ao, au⟩ := u
  obtain ⟨hP1, -, hD1⟩ := hB
  rw [ht] at hP1
  obtain ⟨hP, hD⟩ := va_join (wr := [(h0, .inr (0, [.ref aw, .int (nI 2), .int (nI 5), .null, .null, .null])), (aw, .inl (dA, 32, .inl (fun _ => 0)))]) (w1 := [(as, .inr (1, [.ref ao, .ref au])), (ao, .inl (dA, 32, .inl (fun _ => 0))), (au, .inl (dL, 33, .inr (.inl (fun _ => 0))))]) hP hD [2] [0, 1] rfl rfl (by decide) (by decide) hk1 hFc hP1 hD1
  generalize H1 = H at hP hS ⊢
  have hP : va_P D vwCl [(h0, .inr (0, [.ref aw, .int (nI 2), .int (nI 5), .null, .null, .null])), (aw, .inl (dA, 32, .inl (fun _ => 0))), (as, .inr (1, [.ref ao, .ref au])), (ao, .inl (dA, 32, .inl (fun _ => 0))), (au, .inl (dL, 33, .inr (.inl (fun _ => 0))))] H := hP.sub [0, 1, 2, 3, 4] rfl
  have hD : va_D A [(h0, .inr (0, [.ref aw, .int (nI 2), .int (nI 5), .null, .null, .null])), (aw, .inl (dA, 32, .inl (fun _ => 0))), (as, .inr (1, [.ref ao, .ref au])), (ao, .inl (dA, 32, .inl (fun _ => 0))), (au, .inl (dL, 33, .inr (.inl (fun _ => 0))))] := hD.sub [0, 1, 2, 3, 4] (by decide) rfl
  refine va_putF (D := D) (ci := 0) (v := .ref as) (ty := .object "TrimCodes$Sums") (C := RX0) (T := TX0) (N := 6) hx hb hts in_X0 tyX0 tyX0_ok nmX0 hown hK hP hD hS 0 rfl rfl 3 (by decide) (hts _ q42) (fun _ h9 => h9) rfl hin rfl (by decide +kernel) rfl rfl (Nat.le_of_ble_eq_true rfl) dX0_init_30 (fun H locs hP hD hS => ?_)
  have hP : va_P D vwCl [(h0, .inr (0, [.ref aw, .int (nI 2), .int (nI 5), .ref as, .null, .null])), (aw, .inl (dA, 32, .inl (fun _ => 0))), (as, .inr (1, [.ref ao, .ref au])), (ao, .inl (dA, 32, .inl (fun _ => 0))), (au, .inl (dL, 33, .inr (.inl (fun _ => 0))))] H := hP
  have hD : va_D A [(h0, .inr (0, [.ref aw, .int (nI 2), .int (nI 5), .ref as, .null, .null])), (aw, .inl (dA, 32, .inl (fun _ => 0))), (as, .inr (1, [.ref ao, .ref au])), (ao, .inl (dA, 32, .inl (fun _ => 0))), (au, .inl (dL, 33, .inr (.inl (fun _ => 0))))] := hD
  refine lv_aload_n hx hb dX0_init_33 rfl (lv_at hl 0 rfl) ?_
  refine va_new (ci := 2) (fs := [.null]) (C := RX2) (T := TX2) (N := 1) hx hb hts in_X2 tyX2 tyX2_ok hown (hts _ q29) (hts _ q30) (hts _ q3) hK hP hD hS hA rfl (fun j hj => by rcases (show j = 0 by omega) with rfl <;> rfl) (by show _ ≤ 8; omega) (by show _ ≤ 2279; omega) dX0_init_34 (fun an H hP hD hS => ?_)
  have hP : va_P D vwCl [(h0, .inr (0, [.ref aw, .int (nI 2), .int (nI 5), .ref as, .null, .null])), (aw, .inl (dA, 32, .inl (fun _ => 0))), (as, .inr (1, [.ref ao, .ref au])), (ao, .inl (dA, 32, .inl (fun _ => 0))), (au, .inl (dL, 33, .inr (.inl (fun _ => 0)))), (an, .inr (2, [.null]))] H := hP
  have hD : va_D A [(h0, .inr (0, [.ref aw, .int (nI 2), .int (nI 5), .ref as, .null, .null])), (aw, .inl (dA, 32, .inl (fun _ => 0))), (as, .inr (1, [.ref ao, .ref au])), (ao, .inl (dA, 32, .inl (fun _ => 0))), (au, .inl (dL, 33, .inr (.inl (fun _ => 0)))), (an, .inr (2, [.null]))] := hD
  refine lv_dup hx hb dX0_init_37 rfl ?_
  have hPc := hP.sub (ws' := [(an, .inr (2, [.null]))]) [5] rfl
  have hDc := hD.sub (ws' := [(an, .inr (2, [.null]))]) [5] (by decide) rfl
  have hFc := va_free (wc := [(an, .inr (2, [.null]))]) hD hS hA [5] rfl
  refine va_callv (va_runIN (As := []) (rest := [.ref an, .ref h0]) ⟨hx, hb, hml, hown, hts⟩ (met_init2 l D dA dL an H.size) ⟨va_cnB 0 hts (lw_meth q33) rfl rfl rfl hN2 (hts _ q3) (by decide +kernel) ⟨Nat.le_of_ble_eq_true rfl, Nat.le_of_ble_eq_true rfl⟩, rfl, hts _ q32⟩ ⟨tc_blind, tc_pre hPc hK hDc⟩ rfl rfl hl.1 rfl (lv_room (Nat.le_of_ble_eq_true rfl)) dX0_init_38 ⟨by show _ ≤ 8; omega, by show _ ≤ 2279; omega⟩) hS (fun q _ h => hFc q h) hFc (fun u t9 H1 locs ht hvm hw hB hz1 hk1 hS => ?_)
  obtain ⟨anc, rfl⟩ : ∃ z, z = u := ⟨_, rfl⟩
  obtain ⟨hP1, -, hD1⟩ := hB
  rw [ht] at hP1
  obtain ⟨hP, hD⟩ := va_join (wr := [(h0, .inr (0, [.ref aw, .int (nI 2), .int (nI 5), .ref as, .null, .null])), (aw, .inl (dA, 32, .inl (fun _ => 0))), (as, .inr (1, [.ref ao, .ref au])), (ao, .inl (dA, 32, .inl (fun _ => 0))), (au, .inl (dL, 33, .inr (.inl (fun _ => 0))))]) (w1 := [(an, .inr (2, [.ref anc])), (anc, .inl (dL, 1089, .inr (.inl (fun _ => 0))))]) hP hD [5] [0, 1, 2, 3, 4] rfl rfl (by decide) (by decide) hk1 hFc hP1 hD1
  generalize H1 = H at hP hS ⊢
  have hP : va_P D vwCl [(h0, .inr (0, [.ref aw, .int (nI 2), .int (nI 5), .ref as, .null, .null])), (aw, .inl (dA, 32, .inl (fun _ => 0))), (as, .inr (1, [.ref ao, .ref au])), (ao, .inl (dA, 32, .inl (fun _ => 0))), (au, .inl (dL, 33, .inr (.inl (fun _ => 0)))), (an, .inr (2, [.ref anc])), (anc, .inl (dL, 1089, .inr (.inl (fun _ => 0))))] H := hP.sub [0, 1, 2, 3, 4, 5, 6] rfl
  have hD : va_D A [(h0, .inr (0, [.ref aw, .int (nI 2), .int (nI 5), .ref as, .null, .null])), (aw, .inl (dA, 32, .inl (fun _ => 0))), (as, .inr (1, [.ref ao, .ref au])), (ao, .inl (dA, 32, .inl (fun _ => 0))), (au, .inl (dL, 33, .inr (.inl (fun _ => 0)))), (an, .inr (2, [.ref anc])), (anc, .inl (dL, 1089, .inr (.inl (fun _ => 0))))] := hD.sub [0, 1, 2, 3, 4, 5, 6] (by decide) rfl
  refine va_put (D := D) (ci := 0) (v := .ref an) (ty := .object "TrimCodes$Level") (C := RX0) (T := TX0) (N := 6) hx hb hts in_X0 tyX0 tyX0_ok nmX0 hown hK hP hD hS 0 rfl rfl 4 (by decide) (hts _ q43) (fun _ h9 => h9) rfl (by decide +kernel) rfl rfl (Nat.le_of_ble_eq_true rfl) dX0_init_41 (fun H locs hP hD hS => ?_)
  have hP : va_P D vwCl [(h0, .inr (0, [.ref aw, .int (nI 2), .int (nI 5), .ref as, .ref an, .null])), (aw, .inl (dA, 32, .inl (fun _ => 0))), (as, .inr (1, [.ref ao, .ref au])), (ao, .inl (dA, 32, .inl (fun _ => 0))), (au, .inl (dL, 33, .inr (.inl (fun _ => 0)))), (an, .inr (2, [.ref anc])), (anc, .inl (dL, 1089, .inr (.inl (fun _ => 0))))] H := hP
  have hD : va_D A [(h0, .inr (0, [.ref aw, .int (nI 2), .int (nI 5), .ref as, .ref an, .null])), (aw, .inl (dA, 32, .inl (fun _ => 0))), (as, .inr (1, [.ref ao, .ref au])), (ao, .inl (dA, 32, .inl (fun _ => 0))), (au, .inl (dL, 33, .inr (.inl (fun _ => 0)))), (an, .inr (2, [.ref anc])), (anc, .inl (dL, 1089, .inr (.inl (fun _ => 0))))] := hD
  refine lv_aload_n hx hb dX0_init_44 rfl (lv_at hl 0 rfl) ?_
  refine va_new (ci := 2) (fs := [.null]) (C := RX2) (T := TX2) (N := 1) hx hb hts in_X2 tyX2 tyX2_ok hown (hts _ q29) (hts _ q30) (hts _ q3) hK hP hD hS hA rfl (fun j hj => by rcases (show j = 0 by omega) with rfl <;> rfl) (by show _ ≤ 8; omega) (by show _ ≤ 2279; omega) dX0_init_45 (fun ax H hP hD hS => ?_)
  have hP : va_P D vwCl [(h0, .inr (0, [.ref aw, .int (nI 2), .int (nI 5), .ref as, .ref an, .null])), (aw, .inl (dA, 32, .inl (fun _ => 0))), (as, .inr (1, [.ref ao, .ref au])), (ao, .inl (dA, 32, .inl (fun _ => 0))), (au, .inl (dL, 33, .inr (.inl (fun _ => 0)))), (an, .inr (2, [.ref anc])), (anc, .inl (dL, 1089, .inr (.inl (fun _ => 0)))), (ax, .inr (2, [.null]))] H := hP
  have hD : va_D A [(h0, .inr (0, [.ref aw, .int (nI 2), .int (nI 5), .ref as, .ref an, .null])), (aw, .inl (dA, 32, .inl (fun _ => 0))), (as, .inr (1, [.ref ao, .ref au])), (ao, .inl (dA, 32, .inl (fun _ => 0))), (au, .inl (dL, 33, .inr (.inl (fun _ => 0)))), (an, .inr (2, [.ref anc])), (anc, .inl (dL, 1089, .inr (.inl (fun _ => 0)))), (ax, .inr (2, [.null]))] := hD
  refine lv_dup hx hb dX0_init_48 rfl ?_
  have hPc := hP.sub (ws' := [(ax, .inr (2, [.null]))]) [7] rfl
  have hDc := hD.sub (ws' := [(ax, .inr (2, [.null]))]) [7] (by decide) rfl
  have hFc := va_free (wc := [(ax, .inr (2, [.null]))]) hD hS hA [7] rfl
  refine va_callv (va_runIN (As := []) (rest := [.ref ax, .ref h0]) ⟨hx, hb, hml, hown, hts⟩ (met_init2 l D dA dL ax H.size) ⟨va_cnB 0 hts (lw_meth q33) rfl rfl rfl hN2 (hts _ q3) (by decide +kernel) ⟨Nat.le_of_ble_eq_true rfl, Nat.le_of_ble_eq_true rfl⟩, rfl, hts _ q32⟩ ⟨tc_blind, tc_pre hPc hK hDc⟩ rfl rfl hl.1 rfl (lv_room (Nat.le_of_ble_eq_true rfl)) dX0_init_49 ⟨by show _ ≤ 8; omega, by show _ ≤ 2279; omega⟩) hS (fun q _ h => hFc q h) hFc (fun u t9 H1 locs ht hvm hw hB hz1 hk1 hS => ?_)
  obtain ⟨axc, rfl⟩ : ∃ z, z = u := ⟨_, rfl⟩
  obtain ⟨hP1, -, hD1⟩ := hB
  rw [ht] at hP1
  obtain ⟨hP, hD⟩ := va_join (wr := [(h0, .inr (0, [.ref aw, .int (nI 2), .int (nI 5), .ref as, .ref an, .null])), (aw, .inl (dA, 32, .inl (fun _ => 0))), (as, .inr (1, [.ref ao, .ref au])), (ao, .inl (dA, 32, .inl (fun _ => 0))), (au, .inl (dL, 33, .inr (.inl (fun _ => 0)))), (an, .inr (2, [.ref anc])), (anc, .inl (dL, 1089, .inr (.inl (fun _ => 0))))]) (w1 := [(ax, .inr (2, [.ref axc])), (axc, .inl (dL, 1089, .inr (.inl (fun _ => 0))))]) hP hD [7] [0, 1, 2, 3, 4, 5, 6] rfl rfl (by decide) (by decide) hk1 hFc hP1 hD1
  generalize H1 = H at hP hS ⊢
  have hP : va_P D vwCl [(h0, .inr (0, [.ref aw, .int (nI 2), .int (nI 5), .ref as, .ref an, .null])), (aw, .inl (dA, 32, .inl (fun _ => 0))), (as, .inr (1, [.ref ao, .ref au])), (ao, .inl (dA, 32, .inl (fun _ => 0))), (au, .inl (dL, 33, .inr (.inl (fun _ => 0)))), (an, .inr (2, [.ref anc])), (anc, .inl (dL, 1089, .inr (.inl (fun _ => 0)))), (ax, .inr (2, [.ref axc])), (axc, .inl (dL, 1089, .inr (.inl (fun _ => 0))))] H := hP.sub [0, 1, 2, 3, 4, 5, 6, 7, 8] rfl
  have hD : va_D A [(h0, .inr (0, [.ref aw, .int (nI 2), .int (nI 5), .ref as, .ref an, .null])), (aw, .inl (dA, 32, .inl (fun _ => 0))), (as, .inr (1, [.ref ao, .ref au])), (ao, .inl (dA, 32, .inl (fun _ => 0))), (au, .inl (dL, 33, .inr (.inl (fun _ => 0)))), (an, .inr (2, [.ref anc])), (anc, .inl (dL, 1089, .inr (.inl (fun _ => 0)))), (ax, .inr (2, [.ref axc])), (axc, .inl (dL, 1089, .inr (.inl (fun _ => 0))))] := hD.sub [0, 1, 2, 3, 4, 5, 6, 7, 8] (by decide) rfl
  refine va_put (D := D) (ci := 0) (v := .ref ax) (ty := .object "TrimCodes$Level") (C := RX0) (T := TX0) (N := 6) hx hb hts in_X0 tyX0 tyX0_ok nmX0 hown hK hP hD hS 0 rfl rfl 5 (by decide) (hts _ q44) (fun _ h9 => h9) rfl (by decide +kernel) rfl rfl (Nat.le_of_ble_eq_true rfl) dX0_init_52 (fun H locs hP hD hS => ?_)
  have hP : va_P D vwCl [(h0, .inr (0, [.ref aw, .int (nI 2), .int (nI 5), .ref as, .ref an, .ref ax])), (aw, .inl (dA, 32, .inl (fun _ => 0))), (as, .inr (1, [.ref ao, .ref au])), (ao, .inl (dA, 32, .inl (fun _ => 0))), (au, .inl (dL, 33, .inr (.inl (fun _ => 0)))), (an, .inr (2, [.ref anc])), (anc, .inl (dL, 1089, .inr (.inl (fun _ => 0)))), (ax, .inr (2, [.ref axc])), (axc, .inl (dL, 1089, .inr (.inl (fun _ => 0))))] H := hP
  have hD : va_D A [(h0, .inr (0, [.ref aw, .int (nI 2), .int (nI 5), .ref as, .ref an, .ref ax])), (aw, .inl (dA, 32, .inl (fun _ => 0))), (as, .inr (1, [.ref ao, .ref au])), (ao, .inl (dA, 32, .inl (fun _ => 0))), (au, .inl (dL, 33, .inr (.inl (fun _ => 0)))), (an, .inr (2, [.ref anc])), (anc, .inl (dL, 1089, .inr (.inl (fun _ => 0)))), (ax, .inr (2, [.ref axc])), (axc, .inl (dL, 1089, .inr (.inl (fun _ => 0))))] := hD
  have hP9 := hP.sub (ws' := [(h0, .inr (0, [.ref aw, .int (nI 2), .int (nI 5), .ref as, .ref an, .ref ax])), (aw, .inl (dA, 32, .inl (fun _ => 0))), (as, .inr (1, [.ref ao, .ref au])), (ao, .inl (dA, 32, .inl (fun _ => 0))), (au, .inl (dL, 33, .inr (.inl (fun _ => 0)))), (an, .inr (2, [.ref anc])), (anc, .inl (dL, 1089, .inr (.inl (fun _ => 0)))), (ax, .inr (2, [.ref axc])), (axc, .inl (dL, 1089, .inr (.inl (fun _ => 0))))]) [0, 1, 2, 3, 4, 5, 6, 7, 8] rfl
  have hD9 := hD.sub (ws' := [(h0, .inr (0, [.ref aw, .int (nI 2), .int (nI 5), .ref as, .ref an, .ref ax])), (aw, .inl (dA, 32, .inl (fun _ => 0))), (as, .inr (1, [.ref ao, .ref au])), (ao, .inl (dA, 32, .inl (fun _ => 0))), (au, .inl (dL, 33, .inr (.inl (fun _ => 0)))), (an, .inr (2, [.ref anc])), (anc, .inl (dL, 1089, .inr (.inl (fun _ => 0)))), (ax, .inr (2, [.ref axc])), (axc, .inl (dL, 1089, .inr (.inl (fun _ => 0))))]) [0, 1, 2, 3, 4, 5, 6, 7, 8] (by decide) rfl
  refine W.widen (k := 8) (n := 2279) (by first | omega | (dsimp only; omega)) (by first | omega | (dsimp only; omega)) ?_
  exact W.vret hx hb hr (fun t ht hW => ⟨⟨(), rfl, trivial, ⟨aw, as, ao, au, an, anc, ax, axc, tc_end hP9 hK hD9 ht hW⟩⟩, hS.F ht⟩) hS.2.2 dX0_init_55
end
section
/-! one insertion: the payload e0 stands in fs, from t on moved by one place -/
def tc_ii (k : Nat) (P : Nat → Prop) (e0 : Nat → Nat) (t : Nat) (fs : Nat → Int32) : Prop := t ≤ k ∧ (∀ i, i < t → fs i = nI (e0 i)) ∧ ∀ i, t ≤ i → i < k → fs (i + 1) = nI (e0 i) ∧ P (e0 i)
def tc_e1 (e0 : Nat → Nat) (t x : Nat) : Nat → Nat := fun i => if i < t then e0 i else if i = t then x else e0 (i - 1)
theorem tc_ii_0 {k : Nat} {P : Nat → Prop} {e0 : Nat → Nat} {fs : Nat → Int32} (h : ∀ i, i < k → fs i = nI (e0 i)) : tc_ii k P e0 k fs := ⟨Nat.le_refl _, h, fun i a b => absurd b (by omega)⟩
theorem tc_ii_s {k t : Nat} {P : Nat → Prop} {e0 : Nat → Nat} {fs : Nat → Int32} (h : tc_ii k P e0 (t + 1) fs) (hp : P (e0 t)) : tc_ii k P e0 t (upd fs (t + 1) (nI (e0 t))) := by
  obtain ⟨h1, h2, h3⟩ := h
  refine ⟨by omega, fun i hi => ?_, fun i hi hk => ?_⟩
  · rw [pk_un (by omega)]
    exact h2 i (by omega)
  · by_cases e : i = t
    · subst e
      exact ⟨pk_us, hp⟩
    · rw [pk_un (by omega)]
      exact h3 i (by omega) hk
theorem tc_ii_out {k t x : Nat} {P : Nat → Prop} {e0 : Nat → Nat} {fs : Nat → Int32} (h : tc_ii k P e0 t fs) : ∀ i, i < k + 1 → upd fs t (nI x) i = nI (tc_e1 e0 t x i) := by
  obtain ⟨h1, h2, h3⟩ := h
  intro i hi
  unfold tc_e1
  by_cases a : i < t
  · rw [if_pos a, pk_un (by omega)]
    exact h2 i a
  · rw [if_neg a]
    by_cases b : i = t
    · rw [if_pos b, b]
      exact pk_us
    · rw [if_neg b, pk_un b]
      have := (h3 (i - 1) (by omega) (by omega)).1
      rw [show i - 1 + 1 = i by omega] at this
      exact this
theorem tc_e1_all {k t x : Nat} {P : Nat → Prop} {e0 : Nat → Nat} (h : ∀ i, i < k → P (e0 i)) (hx : P x) (ht : t ≤ k) : ∀ i, i < k + 1 → P (tc_e1 e0 t x i) := by
  intro i hi
  unfold tc_e1
  split
  · exact h i (by omega)
  · split
    · exact hx
    · exact h (i - 1) (by omega)
theorem tc_ii_so {r : Nat → Nat → Prop} (tr : ∀ a b c, r a b → r b c → r a c) {val w e0 : Nat → Nat} {k t x : Nat} (h : tc_so r (fun i => val (e0 i)) w k) (ht : t ≤ k) (hx : val x = w k) (h4 : ∀ i, t ≤ i → i < k → r (w k) (val (e0 i))) (h5 : t = 0 ∨ r (val (e0 (t - 1))) (w k)) : tc_so r (fun i => val (tc_e1 e0 t x i)) w (k + 1) := by
  refine tc_so_step tr (t := t) h ht (fun i hi => ?_) ?_ (fun i hi hk => ?_) h4 h5
  · show val (tc_e1 e0 t x i) = val (e0 i)
    unfold tc_e1
    rw [if_pos hi]
  · show val (tc_e1 e0 t x t) = w k
    unfold tc_e1
    rw [if_neg (Nat.lt_irrefl _), if_pos rfl, hx]
  · show val (tc_e1 e0 t x (i + 1)) = val (e0 i)
    unfold tc_e1
    rw [if_neg (by omega), if_neg (by omega), Nat.add_sub_cancel]
theorem tc_mi (t : Nat) : nI (t + 1) + Int32.ofInt (-1) = nI t := by
  rw [show Int32.ofInt (-1) = -1 from by decide]
  exact pk_m1 t
end
section
/-! Sums.of -/
set_option maxHeartbeats 4000000 in
set_option maxRecDepth 100000 in
theorem of_in {p : Program} {l : Launch} {e : Env} {R : Room} {s : State} {m : MethodId} {args : Array Value} {below : List Frame} {meth : Method} {c : Code} {mc0 ms0 : Nat} {Q : State → Prop} {D : va_G} {dA dL : ClassId} {A : Nat → Prop} (X0 : tc_X p s m meth c args cX1_of 5 RX1 none A) (hK : va_K D vwCl (tA dA dL) s) (h0 h1 h2 hw n : Nat) (g : Nat → Int64) (fw : Nat → Int32) (w : Nat → Nat) (hn : n ≤ 16) (hw0 : ∀ i, fw i = nI (w i) ∧ w i < 2147483648) (k : Nat) (hk : k < n) (e0 : Nat → Nat) (he : ∀ i, i < k → e0 i < 2147483648)
    (kk : ∀ (t : Nat) (f : Nat → Int32) (H : Heap) (locs : List Loc) (ls : Array Slot), tc_ii k (fun v => w k < v) e0 t f → (t = 0 ∨ e0 (t - 1) ≤ w k) → tc_w s D A [(h0, .inr (1, [.ref h1, .ref h2])), (h1, .inl (dA, 32, .inl f)), (h2, .inl (dL, 33, .inr (.inl g))), (hw, .inl (dA, 32, .inl fw))] H locs → lv_has ls 5 [(0, .ref h0), (1, .ref hw), (2, .int (nI n)), (3, .int (nI k)), (4, .int (nI t))] → W p l e R s m args below meth c H locs mc0 ms0 Q (F0 m 52 ls []))
    : ∀ (t : Nat) (f : Nat → Int32) (H : Heap) (locs : List Loc) (ls : Array Slot), tc_ii k (fun v => w k < v) e0 t f → tc_w s D A [(h0, .inr (1, [.ref h1, .ref h2])), (h1, .inl (dA, 32, .inl f)), (h2, .inl (dL, 33, .inr (.inl g))), (hw, .inl (dA, 32, .inl fw))] H locs → lv_has ls 5 [(0, .ref h0), (1, .ref hw), (2, .int (nI n)), (3, .int (nI k)), (4, .int (nI t))] → W p l e R s m args below meth c H locs mc0 ms0 Q (F0 m 10 ls []) := by
  obtain ⟨hx, hb, hr, hml, hown, hts, hlocks, hA⟩ := id X0
  intro t
  induction t with
  | zero =>
    intro f H locs ls hI hw9 hl
    obtain ⟨hP, hD, hS⟩ := hw9
    refine lv_iload hx hb dX1_of_10 (lv_at hl 4 rfl) ?_
    refine tc_if_le hx hb 52 dX1_of_12 (by decide) (by omega) (fun _ => ?_) (fun c9 => absurd c9 (by omega))
    exact kk 0 f H locs ls hI (Or.inl rfl) ⟨hP, hD, hS⟩ hl
  | succ t ih =>
    intro f H locs ls hI hw9 hl
    obtain ⟨hP, hD, hS⟩ := hw9
    have hk1 := hI.1
    have he1 := he t (by omega)
    have hw1 := (hw0 k).2
    refine lv_iload hx hb dX1_of_10 (lv_at hl 4 rfl) ?_
    refine tc_if_le hx hb 52 dX1_of_12 (by decide) (by omega) (fun c9 => absurd c9 (by omega)) (fun _ => ?_)
    refine lv_aload_n hx hb dX1_of_15 rfl (lv_at hl 0 rfl) ?_
    refine va_get (D := D) (ci := 1) (v := .ref h1) (C := RX1) (T := TX1) (N := 2) hx hb hts in_X1 hown hK hP 0 rfl rfl 0 (by decide) (hts _ q20) (fun _ h9 => h9) rfl dX1_of_16 ?_
    refine lv_iload hx hb dX1_of_19 (lv_at hl 4 rfl) ?_
    refine lv_iconst (v := nI 1) hx hb dX1_of_21 (by decide) ?_
    refine tc_isub hx hb (by omega) dX1_of_22 ?_
    refine tc_toi ((nI t)) (congrArg nI (by omega)) ?_
    refine tc_iald hx hb hK hP 1 0 rfl rfl (nI (e0 t)) (by omega) (by decide) (hI.2.1 t (by omega)) dX1_of_23 ?_
    refine lv_aload_n hx hb dX1_of_24 rfl (lv_at hl 1 rfl) ?_
    refine lv_iload_n hx hb dX1_of_25 rfl (lv_at hl 3 rfl) ?_
    refine tc_iald hx hb hK hP 3 0 rfl rfl (nI (w k)) (by omega) (by decide) (hw0 k).1 dX1_of_26 ?_
    refine tc_icmp_le hx hb 52 dX1_of_27 (by decide) (by omega) (by omega) (fun c1 => ?_) (fun c1 => ?_)
    ·
      exact kk (t + 1) f H locs ls hI (Or.inr c1) ⟨hP, hD, hS⟩ hl
    ·
      refine lv_aload_n hx hb dX1_of_30 rfl (lv_at hl 0 rfl) ?_
      refine va_get (D := D) (ci := 1) (v := .ref h1) (C := RX1) (T := TX1) (N := 2) hx hb hts in_X1 hown hK hP 0 rfl rfl 0 (by decide) (hts _ q20) (fun _ h9 => h9) rfl dX1_of_31 ?_
      refine lv_iload hx hb dX1_of_34 (lv_at hl 4 rfl) ?_
      refine lv_aload_n hx hb dX1_of_36 rfl (lv_at hl 0 rfl) ?_
      refine va_get (D := D) (ci := 1) (v := .ref h1) (C := RX1) (T := TX1) (N := 2) hx hb hts in_X1 hown hK hP 0 rfl rfl 0 (by decide) (hts _ q20) (fun _ h9 => h9) rfl dX1_of_37 ?_
      refine lv_iload hx hb dX1_of_40 (lv_at hl 4 rfl) ?_
      refine lv_iconst (v := nI 1) hx hb dX1_of_42 (by decide) ?_
      refine tc_isub hx hb (by omega) dX1_of_43 ?_
      refine tc_toi ((nI t)) (congrArg nI (by omega)) ?_
      refine tc_iald hx hb hK hP 1 0 rfl rfl (nI (e0 t)) (by omega) (by decide) (hI.2.1 t (by omega)) dX1_of_44 ?_
      refine tc_iast hx hb hK hP hD hS 1 0 rfl rfl (by omega) (by decide) dX1_of_45 (fun H locs hP hD hS => ?_)
      have hP : va_P D vwCl [(h0, .inr (1, [.ref h1, .ref h2])), (h1, .inl (dA, 32, .inl (upd f (t + 1) (nI (e0 t))))), (h2, .inl (dL, 33, .inr (.inl g))), (hw, .inl (dA, 32, .inl fw))] H := hP
      have hD : va_D A [(h0, .inr (1, [.ref h1, .ref h2])), (h1, .inl (dA, 32, .inl (upd f (t + 1) (nI (e0 t))))), (h2, .inl (dL, 33, .inr (.inl g))), (hw, .inl (dA, 32, .inl fw))] := hD
      refine lv_iinc (v := (nI t)) (lv' := [(4, .int (nI t)), (0, .ref h0), (1, .ref hw), (2, .int (nI n)), (3, .int (nI k))]) hx hb dX1_of_46 hl (k := 4) rfl (tc_mi t) (by decide) rfl (fun ls hl => ?_)
      refine lv_goto (tgt := 10) hx hb dX1_of_49 (by decide) ?_
      exact ih _ H locs ls (tc_ii_s hI c1) ⟨hP, hD, hS⟩ (lv_sub hl [1, 2, 3, 4, 0] rfl)
set_option maxHeartbeats 4000000 in
set_option maxRecDepth 100000 in
theorem of_out {p : Program} {l : Launch} {e : Env} {R : Room} {s : State} {m : MethodId} {args : Array Value} {below : List Frame} {meth : Method} {c : Code} {mc0 ms0 : Nat} {Q : State → Prop} {D : va_G} {dA dL : ClassId} {A : Nat → Prop} (X0 : tc_X p s m meth c args cX1_of 5 RX1 none A) (hK : va_K D vwCl (tA dA dL) s) (h0 h1 h2 hw n : Nat) (g : Nat → Int64) (fw : Nat → Int32) (w : Nat → Nat) (hn : n ≤ 16) (hw0 : ∀ i, fw i = nI (w i) ∧ w i < 2147483648)
    (kk : ∀ (f : Nat → Int32) (H : Heap) (locs : List Loc) (ls : Array Slot), (∃ e0 : Nat → Nat, (∀ i, i < n → f i = nI (e0 i)) ∧ (∀ i, i < n → e0 i < 2147483648) ∧ tc_so (· ≤ ·) e0 w n) → tc_w s D A [(h0, .inr (1, [.ref h1, .ref h2])), (h1, .inl (dA, 32, .inl f)), (h2, .inl (dL, 33, .inr (.inl g))), (hw, .inl (dA, 32, .inl fw))] H locs → lv_has ls 5 [(0, .ref h0), (1, .ref hw), (2, .int (nI n)), (3, .int (nI n))] → W p l e R s m args below meth c H locs mc0 ms0 Q (F0 m 68 ls []))
    : ∀ (d k : Nat) (f : Nat → Int32) (H : Heap) (locs : List Loc) (ls : Array Slot), k + d = n → (∃ e0 : Nat → Nat, (∀ i, i < k → f i = nI (e0 i)) ∧ (∀ i, i < k → e0 i < 2147483648) ∧ tc_so (· ≤ ·) e0 w k) → tc_w s D A [(h0, .inr (1, [.ref h1, .ref h2])), (h1, .inl (dA, 32, .inl f)), (h2, .inl (dL, 33, .inr (.inl g))), (hw, .inl (dA, 32, .inl fw))] H locs → lv_has ls 5 [(0, .ref h0), (1, .ref hw), (2, .int (nI n)), (3, .int (nI k))] → W p l e R s m args below meth c H locs mc0 ms0 Q (F0 m 2 ls []) := by
  obtain ⟨hx, hb, hr, hml, hown, hts, hlocks, hA⟩ := id X0
  intro d
  induction d with
  | zero =>
    intro k f H locs ls hd hI hw9 hl
    obtain ⟨hP, hD, hS⟩ := hw9
    have hd : k = n := by omega
    subst hd
    refine lv_iload_n hx hb dX1_of_2 rfl (lv_at hl 3 rfl) ?_
    refine lv_iload_n hx hb dX1_of_3 rfl (lv_at hl 2 rfl) ?_
    refine tc_icmp_ge hx hb 68 dX1_of_4 (by decide) (by omega) (by omega) (fun _ => ?_) (fun c9 => absurd c9 (by omega))
    exact kk f H locs ls hI ⟨hP, hD, hS⟩ hl
  | succ d ih =>
    intro k f H locs ls hd hI hw9 hl
    obtain ⟨hP, hD, hS⟩ := hw9
    obtain ⟨e0, he1, he2, he3⟩ := hI
    refine lv_iload_n hx hb dX1_of_2 rfl (lv_at hl 3 rfl) ?_
    refine lv_iload_n hx hb dX1_of_3 rfl (lv_at hl 2 rfl) ?_
    refine tc_icmp_ge hx hb 68 dX1_of_4 (by decide) (by omega) (by omega) (fun c9 => absurd c9 (by omega)) (fun _ => ?_)
    refine lv_iload_n hx hb dX1_of_7 rfl (lv_at hl 3 rfl) ?_
    refine lv_istore (lv' := [(4, .int (nI k)), (0, .ref h0), (1, .ref hw), (2, .int (nI n)), (3, .int (nI k))]) hx hb dX1_of_8 hl (by decide) rfl (fun ls hl => ?_)
    refine of_in X0 hK h0 h1 h2 hw n g fw w hn hw0 k (by omega) e0 he2 (fun t f H locs ls hI ht hw9 hl => ?_) k f H locs ls (tc_ii_0 he1) ⟨hP, hD, hS⟩ (lv_sub hl [1, 2, 3, 4, 0] rfl)
    obtain ⟨hP, hD, hS⟩ := hw9
    have ht1 := hI.1
    refine lv_aload_n hx hb dX1_of_52 rfl (lv_at hl 0 rfl) ?_
    refine va_get (D := D) (ci := 1) (v := .ref h1) (C := RX1) (T := TX1) (N := 2) hx hb hts in_X1 hown hK hP 0 rfl rfl 0 (by decide) (hts _ q20) (fun _ h9 => h9) rfl dX1_of_53 ?_
    refine lv_iload hx hb dX1_of_56 (lv_at hl 4 rfl) ?_
    refine lv_aload_n hx hb dX1_of_58 rfl (lv_at hl 1 rfl) ?_
    refine lv_iload_n hx hb dX1_of_59 rfl (lv_at hl 3 rfl) ?_
    refine tc_iald hx hb hK hP 3 0 rfl rfl (nI (w k)) (by omega) (by decide) (hw0 k).1 dX1_of_60 ?_
    refine tc_iast hx hb hK hP hD hS 1 0 rfl rfl (by omega) (by decide) dX1_of_61 (fun H locs hP hD hS => ?_)
    have hP : va_P D vwCl [(h0, .inr (1, [.ref h1, .ref h2])), (h1, .inl (dA, 32, .inl (upd f t (nI (w k))))), (h2, .inl (dL, 33, .inr (.inl g))), (hw, .inl (dA, 32, .inl fw))] H := hP
    have hD : va_D A [(h0, .inr (1, [.ref h1, .ref h2])), (h1, .inl (dA, 32, .inl (upd f t (nI (w k))))), (h2, .inl (dL, 33, .inr (.inl g))), (hw, .inl (dA, 32, .inl fw))] := hD
    refine lv_iinc (v := (nI (k + 1))) (lv' := [(3, .int (nI (k + 1))), (0, .ref h0), (1, .ref hw), (2, .int (nI n)), (4, .int (nI t))]) hx hb dX1_of_62 hl (k := 3) rfl (nI_1 _) (by decide) rfl (fun ls hl => ?_)
    refine lv_goto (tgt := 2) hx hb dX1_of_65 (by decide) ?_
    refine ih (k + 1) _ H locs ls (by omega) ⟨tc_e1 e0 t (w k), tc_ii_out hI, tc_e1_all (P := fun v => v < 2147483648) he2 (hw0 k).2 ht1, ?_⟩ ⟨hP, hD, hS⟩ (lv_sub hl [1, 2, 3, 0] rfl)
    exact tc_ii_so (r := (· ≤ ·)) (val := fun v => v) (fun a b c h1 h2 => Nat.le_trans h1 h2) he3 ht1 rfl (fun i h1 h2 => Nat.le_of_lt (hI.2.2 i h1 h2).2) ht
set_option maxHeartbeats 4000000 in
set_option maxRecDepth 100000 in
theorem of_sum {p : Program} {l : Launch} {e : Env} {R : Room} {s : State} {m : MethodId} {args : Array Value} {below : List Frame} {meth : Method} {c : Code} {mc0 ms0 : Nat} {Q : State → Prop} {D : va_G} {dA dL : ClassId} {A : Nat → Prop} (X0 : tc_X p s m meth c args cX1_of 5 RX1 none A) (hK : va_K D vwCl (tA dA dL) s) (h0 h1 h2 hw n : Nat) (f fw : Nat → Int32) (w : Nat → Nat) (hn : n ≤ 16) (hf : ∀ i, i < n → f i = nI (tc_a w n i)) (ha : ∀ i, tc_a w n i < 2147483648)
    (kk : ∀ (g : Nat → Int64) (H : Heap) (locs : List Loc) (ls : Array Slot), (∀ i, i ≤ n → g i = lN (tc_S w n i)) → tc_w s D A [(h0, .inr (1, [.ref h1, .ref h2])), (h1, .inl (dA, 32, .inl f)), (h2, .inl (dL, 33, .inr (.inl g))), (hw, .inl (dA, 32, .inl fw))] H locs → lv_has ls 5 [(0, .ref h0), (1, .ref hw), (2, .int (nI n)), (3, .int (nI n))] → W p l e R s m args below meth c H locs mc0 ms0 Q (F0 m 103 ls []))
    : ∀ (d k : Nat) (g : Nat → Int64) (H : Heap) (locs : List Loc) (ls : Array Slot), k + d = n → (∀ i, i ≤ k → g i = lN (tc_S w n i)) → tc_w s D A [(h0, .inr (1, [.ref h1, .ref h2])), (h1, .inl (dA, 32, .inl f)), (h2, .inl (dL, 33, .inr (.inl g))), (hw, .inl (dA, 32, .inl fw))] H locs → lv_has ls 5 [(0, .ref h0), (1, .ref hw), (2, .int (nI n)), (3, .int (nI k))] → W p l e R s m args below meth c H locs mc0 ms0 Q (F0 m 70 ls []) := by
  obtain ⟨hx, hb, hr, hml, hown, hts, hlocks, hA⟩ := id X0
  intro d
  induction d with
  | zero =>
    intro k g H locs ls hd hI hw9 hl
    obtain ⟨hP, hD, hS⟩ := hw9
    have hd : k = n := by omega
    subst hd
    refine lv_iload_n hx hb dX1_of_70 rfl (lv_at hl 3 rfl) ?_
    refine lv_iload_n hx hb dX1_of_71 rfl (lv_at hl 2 rfl) ?_
    refine tc_icmp_ge hx hb 103 dX1_of_72 (by decide) (by omega) (by omega) (fun _ => ?_) (fun c9 => absurd c9 (by omega))
    exact kk g H locs ls hI ⟨hP, hD, hS⟩ hl
  | succ d ih =>
    intro k g H locs ls hd hI hw9 hl
    obtain ⟨hP, hD, hS⟩ := hw9
    have ha1 := ha k
    refine lv_iload_n hx hb dX1_of_70 rfl (lv_at hl 3 rfl) ?_
    refine lv_iload_n hx hb dX1_of_71 rfl (lv_at hl 2 rfl) ?_
    refine tc_icmp_ge hx hb 103 dX1_of_72 (by decide) (by omega) (by omega) (fun c9 => absurd c9 (by omega)) (fun _ => ?_)
    refine lv_aload_n hx hb dX1_of_75 rfl (lv_at hl 0 rfl) ?_
    refine va_get (D := D) (ci := 1) (v := .ref h2) (C := RX1) (T := TX1) (N := 2) hx hb hts in_X1 hown hK hP 0 rfl rfl 1 (by decide) (hts _ q21) (fun _ h9 => h9) rfl dX1_of_76 ?_
    refine lv_iload_n hx hb dX1_of_79 rfl (lv_at hl 3 rfl) ?_
    refine lv_iconst (v := nI 1) hx hb dX1_of_80 (by decide) ?_
    refine tc_iadd hx hb dX1_of_81 ?_
    refine lv_aload_n hx hb dX1_of_82 rfl (lv_at hl 0 rfl) ?_
    refine va_get (D := D) (ci := 1) (v := .ref h2) (C := RX1) (T := TX1) (N := 2) hx hb hts in_X1 hown hK hP 0 rfl rfl 1 (by decide) (hts _ q21) (fun _ h9 => h9) rfl dX1_of_83 ?_
    refine lv_iload_n hx hb dX1_of_86 rfl (lv_at hl 3 rfl) ?_
    refine tc_lald hx hb hK hP 2 1 rfl rfl (lN (tc_S w n k)) (by omega) (by decide) (hI k (Nat.le_refl _)) dX1_of_87 ?_
    refine lv_aload_n hx hb dX1_of_88 rfl (lv_at hl 0 rfl) ?_
    refine va_get (D := D) (ci := 1) (v := .ref h1) (C := RX1) (T := TX1) (N := 2) hx hb hts in_X1 hown hK hP 0 rfl rfl 0 (by decide) (hts _ q20) (fun _ h9 => h9) rfl dX1_of_89 ?_
    refine lv_iload_n hx hb dX1_of_92 rfl (lv_at hl 3 rfl) ?_
    refine tc_iald hx hb hK hP 1 0 rfl rfl (nI (tc_a w n k)) (by omega) (by decide) (hf k (by omega)) dX1_of_93 ?_
    refine tc_i2l hx hb (by omega) dX1_of_94 ?_
    refine tc_ladd hx hb dX1_of_95 ?_
    refine tc_last hx hb hK hP hD hS 2 1 rfl rfl (by omega) (by decide) dX1_of_96 (fun H locs hP hD hS => ?_)
    have hP : va_P D vwCl [(h0, .inr (1, [.ref h1, .ref h2])), (h1, .inl (dA, 32, .inl f)), (h2, .inl (dL, 33, .inr (.inl (vp_updL g (k + 1) (lN ((tc_S w n k) + (tc_a w n k))))))), (hw, .inl (dA, 32, .inl fw))] H := hP
    have hD : va_D A [(h0, .inr (1, [.ref h1, .ref h2])), (h1, .inl (dA, 32, .inl f)), (h2, .inl (dL, 33, .inr (.inl (vp_updL g (k + 1) (lN ((tc_S w n k) + (tc_a w n k))))))), (hw, .inl (dA, 32, .inl fw))] := hD
    refine lv_iinc (v := (nI (k + 1))) (lv' := [(3, .int (nI (k + 1))), (0, .ref h0), (1, .ref hw), (2, .int (nI n))]) hx hb dX1_of_97 hl (k := 3) rfl (nI_1 _) (by decide) rfl (fun ls hl => ?_)
    refine lv_goto (tgt := 70) hx hb dX1_of_100 (by decide) ?_
    refine ih (k + 1) _ H locs ls (by omega) (fun i hi => ?_) ⟨hP, hD, hS⟩ (lv_sub hl [1, 2, 3, 0] rfl)
    by_cases e : i = k + 1
    · subst e; exact pk_uLs
    · rw [pk_uLn e]; exact hI i (by omega)
set_option maxHeartbeats 4000000 in
set_option maxRecDepth 100000 in
theorem met_of (l : Launch) (D : va_G) (dA dL : ClassId) (h0 h1 h2 hw n : Nat) (f fw : Nat → Int32) (g : Nat → Int64) (w : Nat → Nat) (sz : Nat) (hn : n ≤ 16) (hw0 : ∀ i, fw i = nI (w i) ∧ w i < 2147483648) (hg : g 0 = lN 0) : Met l yX1_of (ws_ yX1_of cX1_of 5 none) ({ frames := 0, cells := 0, slots := 0, locals := 0 }) (va_Pc [.ref h0, .ref hw, .int (nI n)] (tc_Pre D dA dL [(h0, .inr (1, [.ref h1, .ref h2])), (h1, .inl (dA, 32, .inl f)), (h2, .inl (dL, 33, .inr (.inl g))), (hw, .inl (dA, 32, .inl fw))] sz)) (va_Qv (fun u : (Nat → Int32) × (Nat → Int64) => ∀ k, k ≤ n → u.2 k = lN (tc_S w n k)) (fun u t => tc_B D dA dL (va_A [(h0, .inr (1, [.ref h1, .ref h2])), (h1, .inl (dA, 32, .inl f)), (h2, .inl (dL, 33, .inr (.inl g))), (hw, .inl (dA, 32, .inl fw))] sz) [(h0, .inr (1, [.ref h1, .ref h2])), (h1, .inl (dA, 32, .inl u.1)), (h2, .inl (dL, 33, .inr (.inl u.2))), (hw, .inl (dA, 32, .inl fw))] t) (va_A [(h0, .inr (1, [.ref h1, .ref h2])), (h1, .inl (dA, 32, .inl f)), (h2, .inl (dL, 33, .inr (.inl g))), (hw, .inl (dA, 32, .inl fw))] sz)) 0 0 (va_A [(h0, .inr (1, [.ref h1, .ref h2])), (h1, .inl (dA, 32, .inl f)), (h2, .inl (dL, 33, .inr (.inl g))), (hw, .inl (dA, 32, .inl fw))] sz) := by
  refine Met.ofW (cc := cX1_of) (maxL := 5) (ret := none) (by decide) rfl ?_
  intro p e s m args below meth c s₁ B hml hv
  obtain ⟨rfl, hsz, hP, hK, hD0⟩ := hv
  have hx := B.exec
  have hb := B.bytes
  have hr := B.returns
  have hts := atoms_spec (ws := ws_ yX1_of cX1_of 5 none) B.pre
  have hts : ∀ w ∈ lw_all, w.before _ s = true := fun w h => hts w (List.mem_cons_of_mem _ h)
  have hown : s.vm.findClass RX1 = some m.cls := findClass_of_methodNamed B.named
  have hlocks := B.notSynchronized
  subst hsz
  have hD := hD0.self (sz := s.heap.size)
  generalize hAe : va_A [(h0, .inr (1, [.ref h1, .ref h2])), (h1, .inl (dA, 32, .inl f)), (h2, .inl (dL, 33, .inr (.inl g))), (hw, .inl (dA, 32, .inl fw))] s.heap.size = A at hD ⊢
  have hA : ∀ q : Nat, s.heap.size ≤ q → A q := fun q h => by rw [← hAe]; exact Or.inr h
  have hS : va_S A s.heap s.heap [] := va_S.rf
  have hl := lv_entry ([.ref h0, .ref hw, .int (nI n)]) (n := 5) (Nat.le_of_ble_eq_true rfl)
  rw [lg_entry_eq]
  generalize (lg_sl ([.ref h0, .ref hw, .int (nI n)]) ++ List.replicate (5 - (lg_sl ([.ref h0, .ref hw, .int (nI n)])).length) Slot.unset).toArray = ls at hl ⊢
  have hl : lv_has ls 5 [(0, .ref h0), (1, .ref hw), (2, .int (nI n))] := hl
  refine lv_iconst (v := nI 0) hx hb dX1_of_0 (by decide) ?_
  refine lv_istore_n (lv' := [(3, .int (nI 0)), (0, .ref h0), (1, .ref hw), (2, .int (nI n))]) hx hb dX1_of_1 rfl hl (by decide) rfl (fun ls hl => ?_)
  have X0 : tc_X p s m meth c _ cX1_of 5 RX1 none A := ⟨hx, hb, hr, hml, hown, hts, hlocks, hA⟩
  refine of_out X0 hK h0 h1 h2 hw n g fw w hn hw0 (fun f H locs ls hI hw9 hl => ?_) n 0 f s.heap [] ls (by omega) ⟨fun _ => 0, fun i h => absurd h (by omega), fun i h => absurd h (by omega), tc_so_0⟩ ⟨hP, hD, hS⟩ (lv_sub hl [1, 2, 3, 0] rfl)
  obtain ⟨hP, hD, hS⟩ := hw9
  obtain ⟨e0, he1, he2, he3⟩ := hI
  have hf : ∀ i, i < n → f i = nI (tc_a w n i) := fun i hi => by rw [he1 i hi, tc_up_a he3 i hi]
  refine lv_iconst (v := nI 0) hx hb dX1_of_68 (by decide) ?_
  refine lv_istore_n (lv' := [(3, .int (nI 0)), (0, .ref h0), (1, .ref hw), (2, .int (nI n))]) hx hb dX1_of_69 rfl hl (by decide) rfl (fun ls hl => ?_)
  refine of_sum X0 hK h0 h1 h2 hw n f fw w hn hf (tc_a_lt fun i => (hw0 i).2) (fun g H locs ls hI hw9 hl => ?_) n 0 g H locs ls (by omega) (fun i hi => by rw [show i = 0 by omega]; exact hg) ⟨hP, hD, hS⟩ (lv_sub hl [1, 2, 3, 0] rfl)
  obtain ⟨hP, hD, hS⟩ := hw9
  have hP9 := hP.sub (ws' := [(h0, .inr (1, [.ref h1, .ref h2])), (h1, .inl (dA, 32, .inl f)), (h2, .inl (dL, 33, .inr (.inl g))), (hw, .inl (dA, 32, .inl fw))]) [0, 1, 2, 3] rfl
  have hD9 := hD.sub (ws' := [(h0, .inr (1, [.ref h1, .ref h2])), (h1, .inl (dA, 32, .inl f)), (h2, .inl (dL, 33, .inr (.inl g))), (hw, .inl (dA, 32, .inl fw))]) [0, 1, 2, 3] (by decide) rfl
  exact W.vret hx hb hr (fun t ht hW => ⟨⟨(f, g), rfl, hI, tc_end hP9 hK hD9 ht hW⟩, hS.F ht⟩) hS.2.2 dX1_of_103
end
section
/-! Level: end, best, above. tc_fill: the places of a level up to (L, M) hold val -/
def tc_fill (val : Nat → Nat → Nat) (L M : Nat) (g : Nat → Int64) : Prop := ∀ l m, m ≤ l → (l < L ∨ (l = L ∧ m < M)) → g (l * 33 + m) = lN (val l m)
theorem tc_fill_s {val : Nat → Nat → Nat} {L M : Nat} {g : Nat → Int64} (h : tc_fill val L M g) (hM : M ≤ L) (hL : L ≤ 32) : tc_fill val L (M + 1) (vp_updL g (L * 33 + M) (lN (val L M))) := by
  intro l m hm hl
  by_cases e : l = L ∧ m = M
  · rw [e.1, e.2]; exact pk_uLs
  · rw [pk_uLn (by omega)]
    exact h l m hm (by omega)
theorem tc_fill_r {val : Nat → Nat → Nat} {L : Nat} {g : Nat → Int64} (h : tc_fill val L (L + 1) g) : tc_fill val (L + 1) 0 g := fun l m hm hl => h l m hm (by omega)
theorem tc_fill_0 {val : Nat → Nat → Nat} {g : Nat → Int64} : tc_fill val 0 0 g := fun l m hm hl => absurd hl (by omega)
def tc_e0 (l m : Nat) : Nat := if l = m then 0 else tc_NEV
theorem tc_e0_E (S : Nat → Nat) (l m : Nat) : tc_E S 1 l m = tc_e0 l m := tc_E_1 S l m
set_option maxHeartbeats 4000000 in
set_option maxRecDepth 100000 in
theorem end_in {p : Program} {l : Launch} {e : Env} {R : Room} {s : State} {m : MethodId} {args : Array Value} {below : List Frame} {meth : Method} {c : Code} {mc0 ms0 : Nat} {Q : State → Prop} {D : va_G} {dA dL : ClassId} {A : Nat → Prop} (X0 : tc_X p s m meth c args cX2_end 4 RX2 none A) (hK : va_K D vwCl (tA dA dL) s) (hR : 1 ≤ R.frames ∧ 24 ≤ R.locals) (hF : mc0 ≤ R.cells ∧ ms0 ≤ R.slots) (h0 h1 n L : Nat) (hn : n ≤ 16) (hL : L ≤ n)
    (kk : ∀ (g : Nat → Int64) (H : Heap) (locs : List Loc) (ls : Array Slot), tc_fill tc_e0 L (L + 1) g → tc_w s D A [(h0, .inr (2, [.ref h1])), (h1, .inl (dL, 1089, .inr (.inl g)))] H locs → lv_has ls 4 [(0, .ref h0), (1, .int (nI n)), (2, .int (nI L))] → W p l e R s m args below meth c H locs mc0 ms0 Q (F0 m 38 ls []))
    : ∀ (d M : Nat) (g : Nat → Int64) (H : Heap) (locs : List Loc) (ls : Array Slot), M + d = L + 1 → tc_fill tc_e0 L M g → tc_w s D A [(h0, .inr (2, [.ref h1])), (h1, .inl (dL, 1089, .inr (.inl g)))] H locs → lv_has ls 4 [(0, .ref h0), (1, .int (nI n)), (2, .int (nI L)), (3, .int (nI M))] → W p l e R s m args below meth c H locs mc0 ms0 Q (F0 m 9 ls []) := by
  obtain ⟨hx, hb, hr, hml, hown, hts, hlocks, hA⟩ := id X0
  intro d
  induction d with
  | zero =>
    intro M g H locs ls hd hI hw9 hl
    obtain ⟨hP, hD, hS⟩ := hw9
    have hd : M = L + 1 := by omega
    subst hd
    refine lv_iload_n hx hb dX2_end_9 rfl (lv_at hl 3 rfl) ?_
    refine lv_iload_n hx hb dX2_end_10 rfl (lv_at hl 2 rfl) ?_
    refine tc_icmp_gt hx hb 38 dX2_end_11 (by decide) (by omega) (by omega) (fun _ => ?_) (fun c9 => absurd c9 (by omega))
    exact kk g H locs ls hI ⟨hP, hD, hS⟩ (lv_sub hl [0, 1, 2] rfl)
  | succ d ih =>
    intro M g H locs ls hd hI hw9 hl
    obtain ⟨hP, hD, hS⟩ := hw9
    refine lv_iload_n hx hb dX2_end_9 rfl (lv_at hl 3 rfl) ?_
    refine lv_iload_n hx hb dX2_end_10 rfl (lv_at hl 2 rfl) ?_
    refine tc_icmp_gt hx hb 38 dX2_end_11 (by decide) (by omega) (by omega) (fun c9 => absurd c9 (by omega)) (fun _ => ?_)
    refine lv_aload_n hx hb dX2_end_14 rfl (lv_at hl 0 rfl) ?_
    refine lv_iload_n hx hb dX2_end_15 rfl (lv_at hl 2 rfl) ?_
    refine lv_iload_n hx hb dX2_end_16 rfl (lv_at hl 3 rfl) ?_
    refine lv_iload_n hx hb dX2_end_17 rfl (lv_at hl 3 rfl) ?_
    refine lv_iload_n hx hb dX2_end_18 rfl (lv_at hl 2 rfl) ?_
    refine tc_icmp_ne hx hb 26 dX2_end_19 (by decide) (by omega) (by omega) (fun c1 => ?_) (fun c1 => ?_)
    ·
      refine lv_ldc2 (v := 2305843009213693951) hx hb hown (hts _ q84) dX2_end_26 ?_
      refine tc_tol ((lN tc_NEV)) rfl ?_
      refine tc_tol ((lN (tc_e0 L M))) (congrArg lN (if_neg (fun q => c1 q.symm)).symm) ?_
      have hPc := hP.sub (ws' := [(h0, .inr (2, [.ref h1])), (h1, .inl (dL, 1089, .inr (.inl g)))]) [0, 1] rfl
      have hDc := hD.sub (ws' := [(h0, .inr (2, [.ref h1])), (h1, .inl (dL, 1089, .inr (.inl g)))]) [0, 1] (by decide) rfl
      have hFc := va_free (wc := [(h0, .inr (2, [.ref h1])), (h1, .inl (dL, 1089, .inr (.inl g)))]) hD hS hA [0, 1] rfl
      refine va_callv (va_runV (As := [.int (nI L), .int (nI M), .long (lN (tc_e0 L M))]) (rest := []) ⟨hx, hb, hml, hown, hts⟩ (met_put l D dA dL h0 h1 L M g (lN (tc_e0 L M)) H.size (by omega)) (cwV 3 hts (lw_V q85 q86 q87 q3 q88) rfl rfl rfl (by decide +kernel) ⟨Nat.le_trans (Nat.le_of_ble_eq_true rfl) hR.1, Nat.le_trans (Nat.le_of_ble_eq_true rfl) hR.2⟩) ⟨tc_blind, va_recv hK hPc (ci := 2) (q0 := 0) rfl rfl, tc_pre hPc hK hDc⟩ rfl rfl hl.1 rfl (lv_room (Nat.le_of_ble_eq_true rfl)) dX2_end_29 hF) hS (fun q _ h => hFc q h) hFc (fun u t9 H1 locs ht hvm hw hB hz1 hk1 hS => ?_)
      obtain ⟨hP1, -, hD1⟩ := hB
      rw [ht] at hP1
      obtain ⟨hP, hD⟩ := va_join (wr := []) (w1 := [(h0, .inr (2, [.ref h1])), (h1, .inl (dL, 1089, .inr (.inl (vp_updL g (L * 33 + M) (lN (tc_e0 L M))))))]) hP hD [0, 1] [] rfl rfl (by decide) (by decide) hk1 hFc hP1 hD1
      generalize H1 = H at hP hS ⊢
      have hP : va_P D vwCl [(h0, .inr (2, [.ref h1])), (h1, .inl (dL, 1089, .inr (.inl (vp_updL g (L * 33 + M) (lN (tc_e0 L M))))))] H := hP.sub [0, 1] rfl
      have hD : va_D A [(h0, .inr (2, [.ref h1])), (h1, .inl (dL, 1089, .inr (.inl (vp_updL g (L * 33 + M) (lN (tc_e0 L M))))))] := hD.sub [0, 1] (by decide) rfl
      refine W.widen (k := mc0) (n := ms0) (Nat.le_refl _) (Nat.le_refl _) ?_
      refine lv_iinc (v := (nI (M + 1))) (lv' := [(3, .int (nI (M + 1))), (0, .ref h0), (1, .int (nI n)), (2, .int (nI L))]) hx hb dX2_end_32 hl (k := 3) rfl (nI_1 _) (by decide) rfl (fun ls hl => ?_)
      refine lv_goto (tgt := 9) hx hb dX2_end_35 (by decide) ?_
      exact ih (M + 1) _ H locs ls (by omega) (tc_fill_s hI (by omega) (by omega)) ⟨hP, hD, hS⟩ (lv_sub hl [1, 2, 3, 0] rfl)
    ·
      refine lv_lconst (v := lN 0) hx hb dX2_end_22 rfl ?_
      refine lv_goto (tgt := 29) hx hb dX2_end_23 (by decide) ?_
      refine tc_tol ((lN (tc_e0 L M))) (congrArg lN (if_pos c1.symm).symm) ?_
      have hPc := hP.sub (ws' := [(h0, .inr (2, [.ref h1])), (h1, .inl (dL, 1089, .inr (.inl g)))]) [0, 1] rfl
      have hDc := hD.sub (ws' := [(h0, .inr (2, [.ref h1])), (h1, .inl (dL, 1089, .inr (.inl g)))]) [0, 1] (by decide) rfl
      have hFc := va_free (wc := [(h0, .inr (2, [.ref h1])), (h1, .inl (dL, 1089, .inr (.inl g)))]) hD hS hA [0, 1] rfl
      refine va_callv (va_runV (As := [.int (nI L), .int (nI M), .long (lN (tc_e0 L M))]) (rest := []) ⟨hx, hb, hml, hown, hts⟩ (met_put l D dA dL h0 h1 L M g (lN (tc_e0 L M)) H.size (by omega)) (cwV 3 hts (lw_V q85 q86 q87 q3 q88) rfl rfl rfl (by decide +kernel) ⟨Nat.le_trans (Nat.le_of_ble_eq_true rfl) hR.1, Nat.le_trans (Nat.le_of_ble_eq_true rfl) hR.2⟩) ⟨tc_blind, va_recv hK hPc (ci := 2) (q0 := 0) rfl rfl, tc_pre hPc hK hDc⟩ rfl rfl hl.1 rfl (lv_room (Nat.le_of_ble_eq_true rfl)) dX2_end_29 hF) hS (fun q _ h => hFc q h) hFc (fun u t9 H1 locs ht hvm hw hB hz1 hk1 hS => ?_)
      obtain ⟨hP1, -, hD1⟩ := hB
      rw [ht] at hP1
      obtain ⟨hP, hD⟩ := va_join (wr := []) (w1 := [(h0, .inr (2, [.ref h1])), (h1, .inl (dL, 1089, .inr (.inl (vp_updL g (L * 33 + M) (lN (tc_e0 L M))))))]) hP hD [0, 1] [] rfl rfl (by decide) (by decide) hk1 hFc hP1 hD1
      generalize H1 = H at hP hS ⊢
      have hP : va_P D vwCl [(h0, .inr (2, [.ref h1])), (h1, .inl (dL, 1089, .inr (.inl (vp_updL g (L * 33 + M) (lN (tc_e0 L M))))))] H := hP.sub [0, 1] rfl
      have hD : va_D A [(h0, .inr (2, [.ref h1])), (h1, .inl (dL, 1089, .inr (.inl (vp_updL g (L * 33 + M) (lN (tc_e0 L M))))))] := hD.sub [0, 1] (by decide) rfl
      refine W.widen (k := mc0) (n := ms0) (Nat.le_refl _) (Nat.le_refl _) ?_
      refine lv_iinc (v := (nI (M + 1))) (lv' := [(3, .int (nI (M + 1))), (0, .ref h0), (1, .int (nI n)), (2, .int (nI L))]) hx hb dX2_end_32 hl (k := 3) rfl (nI_1 _) (by decide) rfl (fun ls hl => ?_)
      refine lv_goto (tgt := 9) hx hb dX2_end_35 (by decide) ?_
      exact ih (M + 1) _ H locs ls (by omega) (tc_fill_s hI (by omega) (by omega)) ⟨hP, hD, hS⟩ (lv_sub hl [1, 2, 3, 0] rfl)
set_option maxHeartbeats 4000000 in
set_option maxRecDepth 100000 in
theorem end_out {p : Program} {l : Launch} {e : Env} {R : Room} {s : State} {m : MethodId} {args : Array Value} {below : List Frame} {meth : Method} {c : Code} {mc0 ms0 : Nat} {Q : State → Prop} {D : va_G} {dA dL : ClassId} {A : Nat → Prop} (X0 : tc_X p s m meth c args cX2_end 4 RX2 none A) (hK : va_K D vwCl (tA dA dL) s) (hR : 1 ≤ R.frames ∧ 24 ≤ R.locals) (hF : mc0 ≤ R.cells ∧ ms0 ≤ R.slots) (h0 h1 n : Nat) (hn : n ≤ 16)
    (kk : ∀ (g : Nat → Int64) (H : Heap) (locs : List Loc) (ls : Array Slot), tc_fill tc_e0 (n + 1) 0 g → tc_w s D A [(h0, .inr (2, [.ref h1])), (h1, .inl (dL, 1089, .inr (.inl g)))] H locs → lv_has ls 4 [(0, .ref h0), (1, .int (nI n)), (2, .int (nI (n + 1)))] → W p l e R s m args below meth c H locs mc0 ms0 Q (F0 m 44 ls []))
    : ∀ (d L : Nat) (g : Nat → Int64) (H : Heap) (locs : List Loc) (ls : Array Slot), L + d = n + 1 → tc_fill tc_e0 L 0 g → tc_w s D A [(h0, .inr (2, [.ref h1])), (h1, .inl (dL, 1089, .inr (.inl g)))] H locs → lv_has ls 4 [(0, .ref h0), (1, .int (nI n)), (2, .int (nI L))] → W p l e R s m args below meth c H locs mc0 ms0 Q (F0 m 2 ls []) := by
  obtain ⟨hx, hb, hr, hml, hown, hts, hlocks, hA⟩ := id X0
  intro d
  induction d with
  | zero =>
    intro L g H locs ls hd hI hw9 hl
    obtain ⟨hP, hD, hS⟩ := hw9
    have hd : L = n + 1 := by omega
    subst hd
    refine lv_iload_n hx hb dX2_end_2 rfl (lv_at hl 2 rfl) ?_
    refine lv_iload_n hx hb dX2_end_3 rfl (lv_at hl 1 rfl) ?_
    refine tc_icmp_gt hx hb 44 dX2_end_4 (by decide) (by omega) (by omega) (fun _ => ?_) (fun c9 => absurd c9 (by omega))
    exact kk g H locs ls hI ⟨hP, hD, hS⟩ hl
  | succ d ih =>
    intro L g H locs ls hd hI hw9 hl
    obtain ⟨hP, hD, hS⟩ := hw9
    refine lv_iload_n hx hb dX2_end_2 rfl (lv_at hl 2 rfl) ?_
    refine lv_iload_n hx hb dX2_end_3 rfl (lv_at hl 1 rfl) ?_
    refine tc_icmp_gt hx hb 44 dX2_end_4 (by decide) (by omega) (by omega) (fun c9 => absurd c9 (by omega)) (fun _ => ?_)
    refine lv_iconst (v := nI 0) hx hb dX2_end_7 (by decide) ?_
    refine lv_istore_n (lv' := [(3, .int (nI 0)), (0, .ref h0), (1, .int (nI n)), (2, .int (nI L))]) hx hb dX2_end_8 rfl hl (by decide) rfl (fun ls hl => ?_)
    refine end_in X0 hK hR hF h0 h1 n L hn (by omega) (fun g H locs ls hI hw9 hl => ?_) (L + 1) 0 g H locs ls (by omega) hI ⟨hP, hD, hS⟩ (lv_sub hl [1, 2, 3, 0] rfl)
    obtain ⟨hP, hD, hS⟩ := hw9
    refine lv_iinc (v := (nI (L + 1))) (lv' := [(2, .int (nI (L + 1))), (0, .ref h0), (1, .int (nI n))]) hx hb dX2_end_38 hl (k := 2) rfl (nI_1 _) (by decide) rfl (fun ls hl => ?_)
    refine lv_goto (tgt := 2) hx hb dX2_end_41 (by decide) ?_
    exact ih (L + 1) g H locs ls (by omega) (tc_fill_r hI) ⟨hP, hD, hS⟩ (lv_sub hl [1, 2, 0] rfl)
set_option maxHeartbeats 4000000 in
set_option maxRecDepth 100000 in
theorem met_end (l : Launch) (D : va_G) (dA dL : ClassId) (h0 h1 n : Nat) (g : Nat → Int64) (sz : Nat) (hn : n ≤ 16) : Met l yX2_end (ws_ yX2_end cX2_end 4 none) ({ frames := 1, cells := 0, slots := 0, locals := 24 }) (va_Pc [.ref h0, .int (nI n)] (tc_Pre D dA dL [(h0, .inr (2, [.ref h1])), (h1, .inl (dL, 1089, .inr (.inl g)))] sz)) (va_Qv (fun u : Nat → Int64 => tc_fill tc_e0 (n + 1) 0 u) (fun u t => tc_B D dA dL (va_A [(h0, .inr (2, [.ref h1])), (h1, .inl (dL, 1089, .inr (.inl g)))] sz) [(h0, .inr (2, [.ref h1])), (h1, .inl (dL, 1089, .inr (.inl u)))] t) (va_A [(h0, .inr (2, [.ref h1])), (h1, .inl (dL, 1089, .inr (.inl g)))] sz)) 0 0 (va_A [(h0, .inr (2, [.ref h1])), (h1, .inl (dL, 1089, .inr (.inl g)))] sz) := by
  refine Met.ofW (cc := cX2_end) (maxL := 4) (ret := none) (by decide) rfl ?_
  intro p e s m args below meth c s₁ B hml hv
  obtain ⟨rfl, hsz, hP, hK, hD0⟩ := hv
  have hx := B.exec
  have hb := B.bytes
  have hr := B.returns
  have hts := atoms_spec (ws := ws_ yX2_end cX2_end 4 none) B.pre
  have hts : ∀ w ∈ lw_all, w.before _ s = true := fun w h => hts w (List.mem_cons_of_mem _ h)
  have hown : s.vm.findClass RX2 = some m.cls := findClass_of_methodNamed B.named
  have hlocks := B.notSynchronized
  subst hsz
  have hD := hD0.self (sz := s.heap.size)
  generalize hAe : va_A [(h0, .inr (2, [.ref h1])), (h1, .inl (dL, 1089, .inr (.inl g)))] s.heap.size = A at hD ⊢
  have hA : ∀ q : Nat, s.heap.size ≤ q → A q := fun q h => by rw [← hAe]; exact Or.inr h
  have hS : va_S A s.heap s.heap [] := va_S.rf
  have hl := lv_entry ([.ref h0, .int (nI n)]) (n := 4) (Nat.le_of_ble_eq_true rfl)
  rw [lg_entry_eq]
  generalize (lg_sl ([.ref h0, .int (nI n)]) ++ List.replicate (4 - (lg_sl ([.ref h0, .int (nI n)])).length) Slot.unset).toArray = ls at hl ⊢
  have hl : lv_has ls 4 [(0, .ref h0), (1, .int (nI n))] := hl
  refine lv_iconst (v := nI 0) hx hb dX2_end_0 (by decide) ?_
  refine lv_istore_n (lv' := [(2, .int (nI 0)), (0, .ref h0), (1, .int (nI n))]) hx hb dX2_end_1 rfl hl (by decide) rfl (fun ls hl => ?_)
  have X0 : tc_X p s m meth c _ cX2_end 4 RX2 none A := ⟨hx, hb, hr, hml, hown, hts, hlocks, hA⟩
  refine end_out X0 hK ⟨Nat.le_of_ble_eq_true rfl, Nat.le_of_ble_eq_true rfl⟩ ⟨Nat.le_of_ble_eq_true rfl, Nat.le_of_ble_eq_true rfl⟩ h0 h1 n hn (fun g H locs ls hI hw9 hl => ?_) (n + 1) 0 g s.heap [] ls (by omega) tc_fill_0 ⟨hP, hD, hS⟩ (lv_sub hl [1, 2, 0] rfl)
  obtain ⟨hP, hD, hS⟩ := hw9
  have hP9 := hP.sub (ws' := [(h0, .inr (2, [.ref h1])), (h1, .inl (dL, 1089, .inr (.inl g)))]) [0, 1] rfl
  have hD9 := hD.sub (ws' := [(h0, .inr (2, [.ref h1])), (h1, .inl (dL, 1089, .inr (.inl g)))]) [0, 1] (by decide) rfl
  exact W.vret hx hb hr (fun t ht hW => ⟨⟨g, rfl, hI, tc_end hP9 hK hD9 ht hW⟩, hS.F ht⟩) hS.2.2 dX2_end_44
set_option maxHeartbeats 4000000 in
set_option maxRecDepth 100000 in
theorem best_in {p : Program} {l : Launch} {e : Env} {R : Room} {s : State} {m : MethodId} {args : Array Value} {below : List Frame} {meth : Method} {c : Code} {mc0 ms0 : Nat} {Q : State → Prop} {D : va_G} {dA dL : ClassId} {A : Nat → Prop} (X0 : tc_X p s m meth c args cX2_best 10 RX2 (some .long) A) (hK : va_K D vwCl (tA dA dL) s) (hR : 2 ≤ R.frames ∧ 42 ≤ R.locals) (hF : mc0 ≤ R.cells ∧ ms0 ≤ R.slots) (b0 b1 s0 s1 s2 n L M : Nat) (gb gs : Nat → Int64) (fs : Nat → Int32) (cb : Nat → Nat → Nat) (S : Nat → Nat) (hn : n ≤ 16) (hL : L ≤ n) (hM : M ≤ L) (hcb : ∀ l m, cb l m ≤ tc_NEV) (hgb : ∀ l m, l ≤ n → m ≤ l → gb (l * 33 + m) = lN (cb l m)) (hgs : ∀ k, k ≤ n → gs k = lN (S k)) (hSb : ∀ k, k ≤ n → S k ≤ 34359738368)
    (kk : ∀ (H : Heap) (locs : List Loc) (ls : Array Slot), tc_w s D A [(b0, .inr (2, [.ref b1])), (b1, .inl (dL, 1089, .inr (.inl gb))), (s0, .inr (1, [.ref s1, .ref s2])), (s1, .inl (dA, 32, .inl fs)), (s2, .inl (dL, 33, .inr (.inl gs)))] H locs → lv_has ls 10 [(0, .ref b0), (1, .ref s0), (2, .int (nI L)), (3, .int (nI M)), (4, .long (lN (tc_bl cb S L M M))), (6, .int (nI M))] → W p l e R s m args below meth c H locs mc0 ms0 Q (F0 m 72 ls []))
    : ∀ (d t : Nat) (H : Heap) (locs : List Loc) (ls : Array Slot), t + d = M → tc_w s D A [(b0, .inr (2, [.ref b1])), (b1, .inl (dL, 1089, .inr (.inl gb))), (s0, .inr (1, [.ref s1, .ref s2])), (s1, .inl (dA, 32, .inl fs)), (s2, .inl (dL, 33, .inr (.inl gs)))] H locs → lv_has ls 10 [(0, .ref b0), (1, .ref s0), (2, .int (nI L)), (3, .int (nI M)), (4, .long (lN (tc_bl cb S L M t))), (6, .int (nI t))] → W p l e R s m args below meth c H locs mc0 ms0 Q (F0 m 15 ls []) := by
  obtain ⟨hx, hb, hr, hml, hown, hts, hlocks, hA⟩ := id X0
  intro d
  induction d with
  | zero =>
    intro t H locs ls hd hw9 hl
    obtain ⟨hP, hD, hS⟩ := hw9
    have hd : t = M := by omega
    subst hd
    refine lv_iload hx hb dX2_best_15 (lv_at hl 5 rfl) ?_
    refine lv_iload_n hx hb dX2_best_17 rfl (lv_at hl 3 rfl) ?_
    refine tc_icmp_ge hx hb 72 dX2_best_18 (by decide) (by omega) (by omega) (fun _ => ?_) (fun c9 => absurd c9 (by omega))
    exact kk H locs ls ⟨hP, hD, hS⟩ hl
  | succ d ih =>
    intro t H locs ls hd hw9 hl
    obtain ⟨hP, hD, hS⟩ := hw9
    have hv1 : tc_v cb L M t ≤ tc_NEV := hcb _ _
    have hb1 := tc_bl_NEV cb S L M t
    have hs1 := hSb (L - t) (by omega)
    have hN : tc_NEV = 2305843009213693951 := rfl
    refine lv_iload hx hb dX2_best_15 (lv_at hl 5 rfl) ?_
    refine lv_iload_n hx hb dX2_best_17 rfl (lv_at hl 3 rfl) ?_
    refine tc_icmp_ge hx hb 72 dX2_best_18 (by decide) (by omega) (by omega) (fun c9 => absurd c9 (by omega)) (fun _ => ?_)
    refine lv_iload_n hx hb dX2_best_21 rfl (lv_at hl 2 rfl) ?_
    refine lv_iload hx hb dX2_best_22 (lv_at hl 5 rfl) ?_
    refine tc_isub hx hb (by omega) dX2_best_24 ?_
    refine lv_istore (lv' := [(7, .int (nI (L - t))), (0, .ref b0), (1, .ref s0), (2, .int (nI L)), (3, .int (nI M)), (4, .long (lN (tc_bl cb S L M t))), (6, .int (nI t))]) hx hb dX2_best_25 hl (by decide) rfl (fun ls hl => ?_)
    refine lv_aload_n hx hb dX2_best_27 rfl (lv_at hl 1 rfl) ?_
    refine lv_iload hx hb dX2_best_28 (lv_at hl 0 rfl) ?_
    refine lv_iconst (v := nI 2) hx hb dX2_best_30 (by decide) ?_
    refine lv_iload_n hx hb dX2_best_31 rfl (lv_at hl 4 rfl) ?_
    refine lv_iload hx hb dX2_best_32 (lv_at hl 6 rfl) ?_
    refine tc_isub hx hb (by omega) dX2_best_34 ?_
    refine tc_imul hx hb dX2_best_35 ?_
    have hPc := hP.sub (ws' := [(b0, .inr (2, [.ref b1])), (b1, .inl (dL, 1089, .inr (.inl gb)))]) [0, 1] rfl
    have hDc := hD.sub (ws' := [(b0, .inr (2, [.ref b1])), (b1, .inl (dL, 1089, .inr (.inl gb)))]) [0, 1] (by decide) rfl
    have hFc := va_free (wc := [(b0, .inr (2, [.ref b1])), (b1, .inl (dL, 1089, .inr (.inl gb)))]) hD hS hA [0, 1] rfl
    refine va_calll (va_runV (As := [.int (nI (L - t)), .int (nI (2 * (M - t)))]) (rest := []) ⟨hx, hb, hml, hown, hts⟩ (met_get l D dA dL b0 b1 (L - t) (2 * (M - t)) gb H.size (by omega) (by omega)) (cwV 2 hts (lw_V q96 q97 q98 q3 q99) rfl rfl rfl (by decide +kernel) ⟨Nat.le_trans (Nat.le_of_ble_eq_true rfl) hR.1, Nat.le_trans (Nat.le_of_ble_eq_true rfl) hR.2⟩) ⟨tc_blind, va_recv hK hPc (ci := 2) (q0 := 0) rfl rfl, tc_pre hPc hK hDc⟩ rfl rfl hl.1 rfl (lv_room (Nat.le_of_ble_eq_true rfl)) dX2_best_36 hF) hS (fun q _ h => hFc q h) hFc (fun r1 u t9 H1 locs ht hvm hr1 hB hz1 hk1 hS => ?_)
    obtain ⟨hP1, -, hD1⟩ := hB
    rw [ht] at hP1
    obtain ⟨hP, hD⟩ := va_join (wr := [(s0, .inr (1, [.ref s1, .ref s2])), (s1, .inl (dA, 32, .inl fs)), (s2, .inl (dL, 33, .inr (.inl gs)))]) (w1 := [(b0, .inr (2, [.ref b1])), (b1, .inl (dL, 1089, .inr (.inl gb)))]) hP hD [0, 1] [2, 3, 4] rfl rfl (by decide) (by decide) hk1 hFc hP1 hD1
    generalize H1 = H at hP hS ⊢
    have hP : va_P D vwCl [(b0, .inr (2, [.ref b1])), (b1, .inl (dL, 1089, .inr (.inl gb))), (s0, .inr (1, [.ref s1, .ref s2])), (s1, .inl (dA, 32, .inl fs)), (s2, .inl (dL, 33, .inr (.inl gs)))] H := hP.sub [3, 4, 0, 1, 2] rfl
    have hD : va_D A [(b0, .inr (2, [.ref b1])), (b1, .inl (dL, 1089, .inr (.inl gb))), (s0, .inr (1, [.ref s1, .ref s2])), (s1, .inl (dA, 32, .inl fs)), (s2, .inl (dL, 33, .inr (.inl gs)))] := hD.sub [3, 4, 0, 1, 2] (by decide) rfl
    refine W.widen (k := mc0) (n := ms0) (Nat.le_refl _) (Nat.le_refl _) ?_
    refine tc_tol ((lN (tc_v cb L M t))) (by rw [hr1]; exact hgb _ _ (by omega) (Nat.min_le_right _ _)) ?_
    refine lv_lstore (lv' := [(8, .long (lN (tc_v cb L M t))), (7, .int (nI (L - t))), (0, .ref b0), (1, .ref s0), (2, .int (nI L)), (3, .int (nI M)), (4, .long (lN (tc_bl cb S L M t))), (6, .int (nI t))]) hx hb dX2_best_39 hl (by decide) rfl (fun ls hl => ?_)
    refine lv_lload hx hb dX2_best_41 (lv_at hl 0 rfl) ?_
    refine lv_ldc2 (v := 2305843009213693951) hx hb hown (hts _ q84) dX2_best_43 ?_
    refine tc_tol ((lN tc_NEV)) rfl ?_
    refine tc_lcmp_ge hx hb 66 dX2_best_46 dX2_best_47 (by decide) (fun c1 => ?_) (fun c1 => ?_)
    ·
      have c1 : ¬ tc_v cb L M t < tc_NEV := Nat.not_lt.mpr ((pk_lLE (by omega) (by omega)).mp c1)
      have e1 : tc_bl cb S L M t = tc_bl cb S L M (t + 1) := (if_neg c1).symm
      refine lv_iinc (v := (nI (t + 1))) (lv' := [(6, .int (nI (t + 1))), (8, .long (lN (tc_v cb L M t))), (7, .int (nI (L - t))), (0, .ref b0), (1, .ref s0), (2, .int (nI L)), (3, .int (nI M)), (4, .long (lN (tc_bl cb S L M t)))]) hx hb dX2_best_66 hl (k := 7) rfl (nI_1 _) (by decide) rfl (fun ls hl => ?_)
      refine lv_goto (tgt := 15) hx hb dX2_best_69 (by decide) ?_
      rw [e1] at hl
      exact ih (t + 1) H locs ls (by omega) ⟨hP, hD, hS⟩ (lv_sub hl [3, 4, 5, 6, 7, 0] rfl)
    ·
      have c1 : tc_v cb L M t < tc_NEV := Nat.not_le.mp fun q => c1 ((pk_lLE (by omega) (by omega)).mpr q)
      have e1 : min (tc_bl cb S L M t) (tc_v cb L M t + S (L - t)) = tc_bl cb S L M (t + 1) := (if_pos c1).symm
      refine lv_lload hx hb dX2_best_50 (lv_at hl 6 rfl) ?_
      refine lv_lload hx hb dX2_best_52 (lv_at hl 0 rfl) ?_
      refine lv_aload_n hx hb dX2_best_54 rfl (lv_at hl 3 rfl) ?_
      refine lv_iload hx hb dX2_best_55 (lv_at hl 1 rfl) ?_
      have hPc := hP.sub (ws' := [(s0, .inr (1, [.ref s1, .ref s2])), (s1, .inl (dA, 32, .inl fs)), (s2, .inl (dL, 33, .inr (.inl gs)))]) [2, 3, 4] rfl
      have hDc := hD.sub (ws' := [(s0, .inr (1, [.ref s1, .ref s2])), (s1, .inl (dA, 32, .inl fs)), (s2, .inl (dL, 33, .inr (.inl gs)))]) [2, 3, 4] (by decide) rfl
      have hFc := va_free (wc := [(s0, .inr (1, [.ref s1, .ref s2])), (s1, .inl (dA, 32, .inl fs)), (s2, .inl (dL, 33, .inr (.inl gs)))]) hD hS hA [2, 3, 4] rfl
      refine va_calll (va_runV (As := [.int (nI (L - t))]) (rest := [.long (lN (tc_v cb L M t)), .long (lN (tc_bl cb S L M t))]) ⟨hx, hb, hml, hown, hts⟩ (met_sleast l D dA dL s0 s1 s2 (L - t) fs gs H.size (by omega)) (cwV 1 hts (lw_V q103 q104 q105 q2 q106) rfl rfl rfl (by decide +kernel) ⟨Nat.le_trans (Nat.le_of_ble_eq_true rfl) hR.1, Nat.le_trans (Nat.le_of_ble_eq_true rfl) hR.2⟩) ⟨tc_blind, va_recv hK hPc (ci := 1) (q0 := 0) rfl rfl, tc_pre hPc hK hDc⟩ rfl rfl hl.1 rfl (lv_room (Nat.le_of_ble_eq_true rfl)) dX2_best_57 hF) hS (fun q _ h => hFc q h) hFc (fun r2 u t9 H1 locs ht hvm hr2 hB hz1 hk1 hS => ?_)
      obtain ⟨hP1, -, hD1⟩ := hB
      rw [ht] at hP1
      obtain ⟨hP, hD⟩ := va_join (wr := [(b0, .inr (2, [.ref b1])), (b1, .inl (dL, 1089, .inr (.inl gb)))]) (w1 := [(s0, .inr (1, [.ref s1, .ref s2])), (s1, .inl (dA, 32, .inl fs)), (s2, .inl (dL, 33, .inr (.inl gs)))]) hP hD [2, 3, 4] [0, 1] rfl rfl (by decide) (by decide) hk1 hFc hP1 hD1
      generalize H1 = H at hP hS ⊢
      have hP : va_P D vwCl [(b0, .inr (2, [.ref b1])), (b1, .inl (dL, 1089, .inr (.inl gb))), (s0, .inr (1, [.ref s1, .ref s2])), (s1, .inl (dA, 32, .inl fs)), (s2, .inl (dL, 33, .inr (.inl gs)))] H := hP.sub [0, 1, 2, 3, 4] rfl
      have hD : va_D A [(b0, .inr (2, [.ref b1])), (b1, .inl (dL, 1089, .inr (.inl gb))), (s0, .inr (1, [.ref s1, .ref s2])), (s1, .inl (dA, 32, .inl fs)), (s2, .inl (dL, 33, .inr (.inl gs)))] := hD.sub [0, 1, 2, 3, 4] (by decide) rfl
      refine W.widen (k := mc0) (n := ms0) (Nat.le_refl _) (Nat.le_refl _) ?_
      refine tc_tol ((lN (S (L - t)))) (by rw [hr2]; exact hgs _ (by omega)) ?_
      refine tc_ladd hx hb dX2_best_60 ?_
      refine va_mmin_long hx hb (by rw [hml]; exact hl.1.symm) hown (hts _ q107) (hts _ q108) (hts _ q5) (hts _ q109) (Nat.le_trans (Nat.le_of_ble_eq_true rfl) hR.1) (Nat.le_trans (Nat.le_of_ble_eq_true rfl) hR.2) hF.1 hF.2 dX2_best_61 ?_
      refine tc_tol (lN (tc_bl cb S L M (t + 1))) (by rw [tc_min_l (by omega) (by omega), e1]) ?_
      refine lv_lstore (lv' := [(4, .long (lN (tc_bl cb S L M (t + 1)))), (8, .long (lN (tc_v cb L M t))), (7, .int (nI (L - t))), (0, .ref b0), (1, .ref s0), (2, .int (nI L)), (3, .int (nI M)), (6, .int (nI t))]) hx hb dX2_best_64 hl (by decide) rfl (fun ls hl => ?_)
      refine lv_iinc (v := (nI (t + 1))) (lv' := [(6, .int (nI (t + 1))), (4, .long (lN (tc_bl cb S L M (t + 1)))), (8, .long (lN (tc_v cb L M t))), (7, .int (nI (L - t))), (0, .ref b0), (1, .ref s0), (2, .int (nI L)), (3, .int (nI M))]) hx hb dX2_best_66 hl (k := 7) rfl (nI_1 _) (by decide) rfl (fun ls hl => ?_)
      refine lv_goto (tgt := 15) hx hb dX2_best_69 (by decide) ?_
      exact ih (t + 1) H locs ls (by omega) ⟨hP, hD, hS⟩ (lv_sub hl [4, 5, 6, 7, 1, 0] rfl)
set_option maxHeartbeats 4000000 in
set_option maxRecDepth 100000 in
theorem met_best (l : Launch) (D : va_G) (dA dL : ClassId) (b0 b1 s0 s1 s2 n L M : Nat) (gb gs : Nat → Int64) (fs : Nat → Int32) (cb : Nat → Nat → Nat) (S : Nat → Nat)  (sz : Nat) (hn : n ≤ 16) (hL : L ≤ n) (hM : M ≤ L) (hcb : ∀ l m, cb l m ≤ tc_NEV) (hgb : ∀ l m, l ≤ n → m ≤ l → gb (l * 33 + m) = lN (cb l m)) (hgs : ∀ k, k ≤ n → gs k = lN (S k)) (hSb : ∀ k, k ≤ n → S k ≤ 34359738368) : Met l yX2_best (ws_ yX2_best cX2_best 10 (some .long)) ({ frames := 2, cells := 0, slots := 0, locals := 42 }) (va_Pc [.ref b0, .ref s0, .int (nI L), .int (nI M)] (tc_Pre D dA dL [(b0, .inr (2, [.ref b1])), (b1, .inl (dL, 1089, .inr (.inl gb))), (s0, .inr (1, [.ref s1, .ref s2])), (s1, .inl (dA, 32, .inl fs)), (s2, .inl (dL, 33, .inr (.inl gs)))] sz)) (va_Ql (fun (r : Int64) (_ : Unit) => r = lN (tc_b cb S L M)) (fun _ t => tc_B D dA dL (va_A [(b0, .inr (2, [.ref b1])), (b1, .inl (dL, 1089, .inr (.inl gb))), (s0, .inr (1, [.ref s1, .ref s2])), (s1, .inl (dA, 32, .inl fs)), (s2, .inl (dL, 33, .inr (.inl gs)))] sz) [(b0, .inr (2, [.ref b1])), (b1, .inl (dL, 1089, .inr (.inl gb))), (s0, .inr (1, [.ref s1, .ref s2])), (s1, .inl (dA, 32, .inl fs)), (s2, .inl (dL, 33, .inr (.inl gs)))] t) (va_A [(b0, .inr (2, [.ref b1])), (b1, .inl (dL, 1089, .inr (.inl gb))), (s0, .inr (1, [.ref s1, .ref s2])), (s1, .inl (dA, 32, .inl fs)), (s2, .inl (dL, 33, .inr (.inl gs)))] sz)) 0 0 (va_A [(b0, .inr (2, [.ref b1])), (b1, .inl (dL, 1089, .inr (.inl gb))), (s0, .inr (1, [.ref s1, .ref s2])), (s1, .inl (dA, 32, .inl fs)), (s2, .inl (dL, 33, .inr (.inl gs)))] sz) := by
  refine Met.ofW (cc := cX2_best) (maxL := 10) (ret := (some .long)) (by decide) rfl ?_
  intro p e s m args below meth c s₁ B hml hv
  obtain ⟨rfl, hsz, hP, hK, hD0⟩ := hv
  have hx := B.exec
  have hb := B.bytes
  have hr := B.returns
  have hts := atoms_spec (ws := ws_ yX2_best cX2_best 10 (some .long)) B.pre
  have hts : ∀ w ∈ lw_all, w.before _ s = true := fun w h => hts w (List.mem_cons_of_mem _ h)
  have hown : s.vm.findClass RX2 = some m.cls := findClass_of_methodNamed B.named
  have hlocks := B.notSynchronized
  subst hsz
  have hD := hD0.self (sz := s.heap.size)
  generalize hAe : va_A [(b0, .inr (2, [.ref b1])), (b1, .inl (dL, 1089, .inr (.inl gb))), (s0, .inr (1, [.ref s1, .ref s2])), (s1, .inl (dA, 32, .inl fs)), (s2, .inl (dL, 33, .inr (.inl gs)))] s.heap.size = A at hD ⊢
  have hA : ∀ q : Nat, s.heap.size ≤ q → A q := fun q h => by rw [← hAe]; exact Or.inr h
  have hS : va_S A s.heap s.heap [] := va_S.rf
  have hl := lv_entry ([.ref b0, .ref s0, .int (nI L), .int (nI M)]) (n := 10) (Nat.le_of_ble_eq_true rfl)
  rw [lg_entry_eq]
  generalize (lg_sl ([.ref b0, .ref s0, .int (nI L), .int (nI M)]) ++ List.replicate (10 - (lg_sl ([.ref b0, .ref s0, .int (nI L), .int (nI M)])).length) Slot.unset).toArray = ls at hl ⊢
  have hl : lv_has ls 10 [(0, .ref b0), (1, .ref s0), (2, .int (nI L)), (3, .int (nI M))] := hl
  refine lv_iload_n hx hb dX2_best_0 rfl (lv_at hl 2 rfl) ?_
  refine lv_iload_n hx hb dX2_best_1 rfl (lv_at hl 3 rfl) ?_
  refine tc_icmp_ne hx hb 7 dX2_best_2 (by decide) (by omega) (by omega) (fun c1 => ?_) (fun c1 => ?_)
  ·
    refine lv_ldc2 (v := 2305843009213693951) hx hb hown (hts _ q84) dX2_best_7 ?_
    refine tc_tol ((lN tc_NEV)) rfl ?_
    refine lv_lstore (lv' := [(4, .long (lN tc_NEV)), (0, .ref b0), (1, .ref s0), (2, .int (nI L)), (3, .int (nI M))]) hx hb dX2_best_10 hl (by decide) rfl (fun ls hl => ?_)
    refine lv_iconst (v := nI 0) hx hb dX2_best_12 (by decide) ?_
    refine lv_istore (lv' := [(6, .int (nI 0)), (4, .long (lN tc_NEV)), (0, .ref b0), (1, .ref s0), (2, .int (nI L)), (3, .int (nI M))]) hx hb dX2_best_13 hl (by decide) rfl (fun ls hl => ?_)
    have X0 : tc_X p s m meth c _ cX2_best 10 RX2 (some .long) A := ⟨hx, hb, hr, hml, hown, hts, hlocks, hA⟩
    refine best_in X0 hK ⟨Nat.le_of_ble_eq_true rfl, Nat.le_of_ble_eq_true rfl⟩ ⟨Nat.le_of_ble_eq_true rfl, Nat.le_of_ble_eq_true rfl⟩ b0 b1 s0 s1 s2 n L M gb gs fs cb S hn hL hM hcb hgb hgs hSb (fun H locs ls hw9 hl => ?_) M 0 s.heap [] ls (by omega) ⟨hP, hD, hS⟩ (lv_sub hl [2, 3, 4, 5, 1, 0] rfl)
    obtain ⟨hP, hD, hS⟩ := hw9
    refine lv_lload hx hb dX2_best_72 (lv_at hl 4 rfl) ?_
    have hP9 := hP.sub (ws' := [(b0, .inr (2, [.ref b1])), (b1, .inl (dL, 1089, .inr (.inl gb))), (s0, .inr (1, [.ref s1, .ref s2])), (s1, .inl (dA, 32, .inl fs)), (s2, .inl (dL, 33, .inr (.inl gs)))]) [0, 1, 2, 3, 4] rfl
    have hD9 := hD.sub (ws' := [(b0, .inr (2, [.ref b1])), (b1, .inl (dL, 1089, .inr (.inl gb))), (s0, .inr (1, [.ref s1, .ref s2])), (s1, .inl (dA, 32, .inl fs)), (s2, .inl (dL, 33, .inr (.inl gs)))]) [0, 1, 2, 3, 4] (by decide) rfl
    exact W.lret (v := (lN (tc_bl cb S L M M))) hx hb hr (fun t ht hW => ⟨⟨_, (), rfl, (congrArg lN (if_neg c1).symm), tc_end hP9 hK hD9 ht hW⟩, hS.F ht⟩) hS.2.2 dX2_best_74
  ·
    refine lv_lconst (v := lN 0) hx hb dX2_best_5 rfl ?_
    have hP9 := hP.sub (ws' := [(b0, .inr (2, [.ref b1])), (b1, .inl (dL, 1089, .inr (.inl gb))), (s0, .inr (1, [.ref s1, .ref s2])), (s1, .inl (dA, 32, .inl fs)), (s2, .inl (dL, 33, .inr (.inl gs)))]) [0, 1, 2, 3, 4] rfl
    have hD9 := hD.sub (ws' := [(b0, .inr (2, [.ref b1])), (b1, .inl (dL, 1089, .inr (.inl gb))), (s0, .inr (1, [.ref s1, .ref s2])), (s1, .inl (dA, 32, .inl fs)), (s2, .inl (dL, 33, .inr (.inl gs)))]) [0, 1, 2, 3, 4] (by decide) rfl
    exact W.lret (v := (lN 0)) hx hb hr (fun t ht hW => ⟨⟨_, (), rfl, (congrArg lN (if_pos c1).symm), tc_end hP9 hK hD9 ht hW⟩, hS.F ht⟩) hS.2.2 dX2_best_6
set_option maxHeartbeats 4000000 in
set_option maxRecDepth 100000 in
theorem abv_in {p : Program} {l : Launch} {e : Env} {R : Room} {s : State} {m : MethodId} {args : Array Value} {below : List Frame} {meth : Method} {c : Code} {mc0 ms0 : Nat} {Q : State → Prop} {D : va_G} {dA dL : ClassId} {A : Nat → Prop} (X0 : tc_X p s m meth c args cX2_above 6 RX2 none A) (hK : va_K D vwCl (tA dA dL) s) (hR : 3 ≤ R.frames ∧ 71 ≤ R.locals) (hF : mc0 ≤ R.cells ∧ ms0 ≤ R.slots) (h0 h1 b0 b1 s0 s1 s2 n : Nat) (gb gs : Nat → Int64) (fs : Nat → Int32) (cb : Nat → Nat → Nat) (S : Nat → Nat) (hn : n ≤ 16) (hcb : ∀ l m, cb l m ≤ tc_NEV) (hgb : ∀ l m, l ≤ n → m ≤ l → gb (l * 33 + m) = lN (cb l m)) (hgs : ∀ k, k ≤ n → gs k = lN (S k)) (hSb : ∀ k, k ≤ n → S k ≤ 34359738368) (L : Nat) (hL : L ≤ n)
    (kk : ∀ (g : Nat → Int64) (H : Heap) (locs : List Loc) (ls : Array Slot), tc_fill (tc_b cb S) L (L + 1) g → tc_w s D A [(h0, .inr (2, [.ref h1])), (h1, .inl (dL, 1089, .inr (.inl g))), (b0, .inr (2, [.ref b1])), (b1, .inl (dL, 1089, .inr (.inl gb))), (s0, .inr (1, [.ref s1, .ref s2])), (s1, .inl (dA, 32, .inl fs)), (s2, .inl (dL, 33, .inr (.inl gs)))] H locs → lv_has ls 6 [(0, .ref h0), (1, .ref b0), (2, .ref s0), (3, .int (nI n)), (4, .int (nI L))] → W p l e R s m args below meth c H locs mc0 ms0 Q (F0 m 42 ls []))
    : ∀ (d M : Nat) (g : Nat → Int64) (H : Heap) (locs : List Loc) (ls : Array Slot), M + d = L + 1 → tc_fill (tc_b cb S) L M g → tc_w s D A [(h0, .inr (2, [.ref h1])), (h1, .inl (dL, 1089, .inr (.inl g))), (b0, .inr (2, [.ref b1])), (b1, .inl (dL, 1089, .inr (.inl gb))), (s0, .inr (1, [.ref s1, .ref s2])), (s1, .inl (dA, 32, .inl fs)), (s2, .inl (dL, 33, .inr (.inl gs)))] H locs → lv_has ls 6 [(0, .ref h0), (1, .ref b0), (2, .ref s0), (3, .int (nI n)), (4, .int (nI L)), (5, .int (nI M))] → W p l e R s m args below meth c H locs mc0 ms0 Q (F0 m 12 ls []) := by
  obtain ⟨hx, hb, hr, hml, hown, hts, hlocks, hA⟩ := id X0
  intro d
  induction d with
  | zero =>
    intro M g H locs ls hd hI hw9 hl
    obtain ⟨hP, hD, hS⟩ := hw9
    have hd : M = L + 1 := by omega
    subst hd
    refine lv_iload hx hb dX2_above_12 (lv_at hl 5 rfl) ?_
    refine lv_iload hx hb dX2_above_14 (lv_at hl 4 rfl) ?_
    refine tc_icmp_gt hx hb 42 dX2_above_16 (by decide) (by omega) (by omega) (fun _ => ?_) (fun c9 => absurd c9 (by omega))
    exact kk g H locs ls hI ⟨hP, hD, hS⟩ (lv_sub hl [0, 1, 2, 3, 4] rfl)
  | succ d ih =>
    intro M g H locs ls hd hI hw9 hl
    obtain ⟨hP, hD, hS⟩ := hw9
    refine lv_iload hx hb dX2_above_12 (lv_at hl 5 rfl) ?_
    refine lv_iload hx hb dX2_above_14 (lv_at hl 4 rfl) ?_
    refine tc_icmp_gt hx hb 42 dX2_above_16 (by decide) (by omega) (by omega) (fun c9 => absurd c9 (by omega)) (fun _ => ?_)
    refine lv_aload_n hx hb dX2_above_19 rfl (lv_at hl 0 rfl) ?_
    refine lv_iload hx hb dX2_above_20 (lv_at hl 4 rfl) ?_
    refine lv_iload hx hb dX2_above_22 (lv_at hl 5 rfl) ?_
    refine lv_aload_n hx hb dX2_above_24 rfl (lv_at hl 1 rfl) ?_
    refine lv_aload_n hx hb dX2_above_25 rfl (lv_at hl 2 rfl) ?_
    refine lv_iload hx hb dX2_above_26 (lv_at hl 4 rfl) ?_
    refine lv_iload hx hb dX2_above_28 (lv_at hl 5 rfl) ?_
    have hPc := hP.sub (ws' := [(b0, .inr (2, [.ref b1])), (b1, .inl (dL, 1089, .inr (.inl gb))), (s0, .inr (1, [.ref s1, .ref s2])), (s1, .inl (dA, 32, .inl fs)), (s2, .inl (dL, 33, .inr (.inl gs)))]) [2, 3, 4, 5, 6] rfl
    have hDc := hD.sub (ws' := [(b0, .inr (2, [.ref b1])), (b1, .inl (dL, 1089, .inr (.inl gb))), (s0, .inr (1, [.ref s1, .ref s2])), (s1, .inl (dA, 32, .inl fs)), (s2, .inl (dL, 33, .inr (.inl gs)))]) [2, 3, 4, 5, 6] (by decide) rfl
    have hFc := va_free (wc := [(b0, .inr (2, [.ref b1])), (b1, .inl (dL, 1089, .inr (.inl gb))), (s0, .inr (1, [.ref s1, .ref s2])), (s1, .inl (dA, 32, .inl fs)), (s2, .inl (dL, 33, .inr (.inl gs)))]) hD hS hA [2, 3, 4, 5, 6] rfl
    refine va_calll (va_runS (As := [.ref b0, .ref s0, .int (nI L), .int (nI M)]) (rest := [.int (nI M), .int (nI L), .ref h0]) ⟨hx, hb, hml, hown, hts⟩ (met_best l D dA dL b0 b1 s0 s1 s2 n L M gb gs fs cb S H.size hn hL (by omega) hcb hgb hgs hSb) (va_cwS 4 hts (lw_S q93 q94 q3 q95) rfl rfl rfl (by decide +kernel) ⟨Nat.le_trans (Nat.le_of_ble_eq_true rfl) hR.1, Nat.le_trans (Nat.le_of_ble_eq_true rfl) hR.2⟩) ⟨tc_blind, tc_pre hPc hK hDc⟩ rfl rfl hl.1 rfl (lv_room (Nat.le_of_ble_eq_true rfl)) dX2_above_30 hF) hS (fun q _ h => hFc q h) hFc (fun r1 u t9 H1 locs ht hvm hr1 hB hz1 hk1 hS => ?_)
    obtain ⟨hP1, -, hD1⟩ := hB
    rw [ht] at hP1
    obtain ⟨hP, hD⟩ := va_join (wr := [(h0, .inr (2, [.ref h1])), (h1, .inl (dL, 1089, .inr (.inl g)))]) (w1 := [(b0, .inr (2, [.ref b1])), (b1, .inl (dL, 1089, .inr (.inl gb))), (s0, .inr (1, [.ref s1, .ref s2])), (s1, .inl (dA, 32, .inl fs)), (s2, .inl (dL, 33, .inr (.inl gs)))]) hP hD [2, 3, 4, 5, 6] [0, 1] rfl rfl (by decide) (by decide) hk1 hFc hP1 hD1
    generalize H1 = H at hP hS ⊢
    have hP : va_P D vwCl [(h0, .inr (2, [.ref h1])), (h1, .inl (dL, 1089, .inr (.inl g))), (b0, .inr (2, [.ref b1])), (b1, .inl (dL, 1089, .inr (.inl gb))), (s0, .inr (1, [.ref s1, .ref s2])), (s1, .inl (dA, 32, .inl fs)), (s2, .inl (dL, 33, .inr (.inl gs)))] H := hP.sub [0, 1, 2, 3, 4, 5, 6] rfl
    have hD : va_D A [(h0, .inr (2, [.ref h1])), (h1, .inl (dL, 1089, .inr (.inl g))), (b0, .inr (2, [.ref b1])), (b1, .inl (dL, 1089, .inr (.inl gb))), (s0, .inr (1, [.ref s1, .ref s2])), (s1, .inl (dA, 32, .inl fs)), (s2, .inl (dL, 33, .inr (.inl gs)))] := hD.sub [0, 1, 2, 3, 4, 5, 6] (by decide) rfl
    refine W.widen (k := mc0) (n := ms0) (Nat.le_refl _) (Nat.le_refl _) ?_
    refine tc_tol ((lN (tc_b cb S L M))) hr1 ?_
    have hPc := hP.sub (ws' := [(h0, .inr (2, [.ref h1])), (h1, .inl (dL, 1089, .inr (.inl g)))]) [0, 1] rfl
    have hDc := hD.sub (ws' := [(h0, .inr (2, [.ref h1])), (h1, .inl (dL, 1089, .inr (.inl g)))]) [0, 1] (by decide) rfl
    have hFc := va_free (wc := [(h0, .inr (2, [.ref h1])), (h1, .inl (dL, 1089, .inr (.inl g)))]) hD hS hA [0, 1] rfl
    refine va_callv (va_runV (As := [.int (nI L), .int (nI M), .long (lN (tc_b cb S L M))]) (rest := []) ⟨hx, hb, hml, hown, hts⟩ (met_put l D dA dL h0 h1 L M g (lN (tc_b cb S L M)) H.size (by omega)) (cwV 3 hts (lw_V q85 q86 q87 q3 q88) rfl rfl rfl (by decide +kernel) ⟨Nat.le_trans (Nat.le_of_ble_eq_true rfl) hR.1, Nat.le_trans (Nat.le_of_ble_eq_true rfl) hR.2⟩) ⟨tc_blind, va_recv hK hPc (ci := 2) (q0 := 0) rfl rfl, tc_pre hPc hK hDc⟩ rfl rfl hl.1 rfl (lv_room (Nat.le_of_ble_eq_true rfl)) dX2_above_33 hF) hS (fun q _ h => hFc q h) hFc (fun u t9 H1 locs ht hvm hw hB hz1 hk1 hS => ?_)
    obtain ⟨hP1, -, hD1⟩ := hB
    rw [ht] at hP1
    obtain ⟨hP, hD⟩ := va_join (wr := [(b0, .inr (2, [.ref b1])), (b1, .inl (dL, 1089, .inr (.inl gb))), (s0, .inr (1, [.ref s1, .ref s2])), (s1, .inl (dA, 32, .inl fs)), (s2, .inl (dL, 33, .inr (.inl gs)))]) (w1 := [(h0, .inr (2, [.ref h1])), (h1, .inl (dL, 1089, .inr (.inl (vp_updL g (L * 33 + M) (lN (tc_b cb S L M))))))]) hP hD [0, 1] [2, 3, 4, 5, 6] rfl rfl (by decide) (by decide) hk1 hFc hP1 hD1
    generalize H1 = H at hP hS ⊢
    have hP : va_P D vwCl [(h0, .inr (2, [.ref h1])), (h1, .inl (dL, 1089, .inr (.inl (vp_updL g (L * 33 + M) (lN (tc_b cb S L M)))))), (b0, .inr (2, [.ref b1])), (b1, .inl (dL, 1089, .inr (.inl gb))), (s0, .inr (1, [.ref s1, .ref s2])), (s1, .inl (dA, 32, .inl fs)), (s2, .inl (dL, 33, .inr (.inl gs)))] H := hP.sub [5, 6, 0, 1, 2, 3, 4] rfl
    have hD : va_D A [(h0, .inr (2, [.ref h1])), (h1, .inl (dL, 1089, .inr (.inl (vp_updL g (L * 33 + M) (lN (tc_b cb S L M)))))), (b0, .inr (2, [.ref b1])), (b1, .inl (dL, 1089, .inr (.inl gb))), (s0, .inr (1, [.ref s1, .ref s2])), (s1, .inl (dA, 32, .inl fs)), (s2, .inl (dL, 33, .inr (.inl gs)))] := hD.sub [5, 6, 0, 1, 2, 3, 4] (by decide) rfl
    refine W.widen (k := mc0) (n := ms0) (Nat.le_refl _) (Nat.le_refl _) ?_
    refine lv_iinc (v := (nI (M + 1))) (lv' := [(5, .int (nI (M + 1))), (0, .ref h0), (1, .ref b0), (2, .ref s0), (3, .int (nI n)), (4, .int (nI L))]) hx hb dX2_above_36 hl (k := 5) rfl (nI_1 _) (by decide) rfl (fun ls hl => ?_)
    refine lv_goto (tgt := 12) hx hb dX2_above_39 (by decide) ?_
    exact ih (M + 1) _ H locs ls (by omega) (tc_fill_s hI (by omega) (by omega)) ⟨hP, hD, hS⟩ (lv_sub hl [1, 2, 3, 4, 5, 0] rfl)
set_option maxHeartbeats 4000000 in
set_option maxRecDepth 100000 in
theorem abv_out {p : Program} {l : Launch} {e : Env} {R : Room} {s : State} {m : MethodId} {args : Array Value} {below : List Frame} {meth : Method} {c : Code} {mc0 ms0 : Nat} {Q : State → Prop} {D : va_G} {dA dL : ClassId} {A : Nat → Prop} (X0 : tc_X p s m meth c args cX2_above 6 RX2 none A) (hK : va_K D vwCl (tA dA dL) s) (hR : 3 ≤ R.frames ∧ 71 ≤ R.locals) (hF : mc0 ≤ R.cells ∧ ms0 ≤ R.slots) (h0 h1 b0 b1 s0 s1 s2 n : Nat) (gb gs : Nat → Int64) (fs : Nat → Int32) (cb : Nat → Nat → Nat) (S : Nat → Nat) (hn : n ≤ 16) (hcb : ∀ l m, cb l m ≤ tc_NEV) (hgb : ∀ l m, l ≤ n → m ≤ l → gb (l * 33 + m) = lN (cb l m)) (hgs : ∀ k, k ≤ n → gs k = lN (S k)) (hSb : ∀ k, k ≤ n → S k ≤ 34359738368)
    (kk : ∀ (g : Nat → Int64) (H : Heap) (locs : List Loc) (ls : Array Slot), tc_fill (tc_b cb S) (n + 1) 0 g → tc_w s D A [(h0, .inr (2, [.ref h1])), (h1, .inl (dL, 1089, .inr (.inl g))), (b0, .inr (2, [.ref b1])), (b1, .inl (dL, 1089, .inr (.inl gb))), (s0, .inr (1, [.ref s1, .ref s2])), (s1, .inl (dA, 32, .inl fs)), (s2, .inl (dL, 33, .inr (.inl gs)))] H locs → lv_has ls 6 [(0, .ref h0), (1, .ref b0), (2, .ref s0), (3, .int (nI n)), (4, .int (nI (n + 1)))] → W p l e R s m args below meth c H locs mc0 ms0 Q (F0 m 48 ls []))
    : ∀ (d L : Nat) (g : Nat → Int64) (H : Heap) (locs : List Loc) (ls : Array Slot), L + d = n + 1 → tc_fill (tc_b cb S) L 0 g → tc_w s D A [(h0, .inr (2, [.ref h1])), (h1, .inl (dL, 1089, .inr (.inl g))), (b0, .inr (2, [.ref b1])), (b1, .inl (dL, 1089, .inr (.inl gb))), (s0, .inr (1, [.ref s1, .ref s2])), (s1, .inl (dA, 32, .inl fs)), (s2, .inl (dL, 33, .inr (.inl gs)))] H locs → lv_has ls 6 [(0, .ref h0), (1, .ref b0), (2, .ref s0), (3, .int (nI n)), (4, .int (nI L))] → W p l e R s m args below meth c H locs mc0 ms0 Q (F0 m 3 ls []) := by
  obtain ⟨hx, hb, hr, hml, hown, hts, hlocks, hA⟩ := id X0
  intro d
  induction d with
  | zero =>
    intro L g H locs ls hd hI hw9 hl
    obtain ⟨hP, hD, hS⟩ := hw9
    have hd : L = n + 1 := by omega
    subst hd
    refine lv_iload hx hb dX2_above_3 (lv_at hl 4 rfl) ?_
    refine lv_iload_n hx hb dX2_above_5 rfl (lv_at hl 3 rfl) ?_
    refine tc_icmp_gt hx hb 48 dX2_above_6 (by decide) (by omega) (by omega) (fun _ => ?_) (fun c9 => absurd c9 (by omega))
    exact kk g H locs ls hI ⟨hP, hD, hS⟩ hl
  | succ d ih =>
    intro L g H locs ls hd hI hw9 hl
    obtain ⟨hP, hD, hS⟩ := hw9
    refine lv_iload hx hb dX2_above_3 (lv_at hl 4 rfl) ?_
    refine lv_iload_n hx hb dX2_above_5 rfl (lv_at hl 3 rfl) ?_
    refine tc_icmp_gt hx hb 48 dX2_above_6 (by decide) (by omega) (by omega) (fun c9 => absurd c9 (by omega)) (fun _ => ?_)
    refine lv_iconst (v := nI 0) hx hb dX2_above_9 (by decide) ?_
    refine lv_istore (lv' := [(5, .int (nI 0)), (0, .ref h0), (1, .ref b0), (2, .ref s0), (3, .int (nI n)), (4, .int (nI L))]) hx hb dX2_above_10 hl (by decide) rfl (fun ls hl => ?_)
    refine abv_in X0 hK hR hF h0 h1 b0 b1 s0 s1 s2 n gb gs fs cb S hn hcb hgb hgs hSb L (by omega) (fun g H locs ls hI hw9 hl => ?_) (L + 1) 0 g H locs ls (by omega) hI ⟨hP, hD, hS⟩ (lv_sub hl [1, 2, 3, 4, 5, 0] rfl)
    obtain ⟨hP, hD, hS⟩ := hw9
    refine lv_iinc (v := (nI (L + 1))) (lv' := [(4, .int (nI (L + 1))), (0, .ref h0), (1, .ref b0), (2, .ref s0), (3, .int (nI n))]) hx hb dX2_above_42 hl (k := 4) rfl (nI_1 _) (by decide) rfl (fun ls hl => ?_)
    refine lv_goto (tgt := 3) hx hb dX2_above_45 (by decide) ?_
    exact ih (L + 1) g H locs ls (by omega) (tc_fill_r hI) ⟨hP, hD, hS⟩ (lv_sub hl [1, 2, 3, 4, 0] rfl)
set_option maxHeartbeats 4000000 in
set_option maxRecDepth 100000 in
theorem met_above (l : Launch) (D : va_G) (dA dL : ClassId) (h0 h1 b0 b1 s0 s1 s2 n : Nat) (gb gs : Nat → Int64) (fs : Nat → Int32) (cb : Nat → Nat → Nat) (S : Nat → Nat) (g : Nat → Int64) (sz : Nat) (hn : n ≤ 16) (hcb : ∀ l m, cb l m ≤ tc_NEV) (hgb : ∀ l m, l ≤ n → m ≤ l → gb (l * 33 + m) = lN (cb l m)) (hgs : ∀ k, k ≤ n → gs k = lN (S k)) (hSb : ∀ k, k ≤ n → S k ≤ 34359738368) : Met l yX2_above (ws_ yX2_above cX2_above 6 none) ({ frames := 3, cells := 0, slots := 0, locals := 71 }) (va_Pc [.ref h0, .ref b0, .ref s0, .int (nI n)] (tc_Pre D dA dL [(h0, .inr (2, [.ref h1])), (h1, .inl (dL, 1089, .inr (.inl g))), (b0, .inr (2, [.ref b1])), (b1, .inl (dL, 1089, .inr (.inl gb))), (s0, .inr (1, [.ref s1, .ref s2])), (s1, .inl (dA, 32, .inl fs)), (s2, .inl (dL, 33, .inr (.inl gs)))] sz)) (va_Qv (fun u : Nat → Int64 => tc_fill (tc_b cb S) (n + 1) 0 u) (fun u t => tc_B D dA dL (va_A [(h0, .inr (2, [.ref h1])), (h1, .inl (dL, 1089, .inr (.inl g))), (b0, .inr (2, [.ref b1])), (b1, .inl (dL, 1089, .inr (.inl gb))), (s0, .inr (1, [.ref s1, .ref s2])), (s1, .inl (dA, 32, .inl fs)), (s2, .inl (dL, 33, .inr (.inl gs)))] sz) [(h0, .inr (2, [.ref h1])), (h1, .inl (dL, 1089, .inr (.inl u))), (b0, .inr (2, [.ref b1])), (b1, .inl (dL, 1089, .inr (.inl gb))), (s0, .inr (1, [.ref s1, .ref s2])), (s1, .inl (dA, 32, .inl fs)), (s2, .inl (dL, 33, .inr (.inl gs)))] t) (va_A [(h0, .inr (2, [.ref h1])), (h1, .inl (dL, 1089, .inr (.inl g))), (b0, .inr (2, [.ref b1])), (b1, .inl (dL, 1089, .inr (.inl gb))), (s0, .inr (1, [.ref s1, .ref s2])), (s1, .inl (dA, 32, .inl fs)), (s2, .inl (dL, 33, .inr (.inl gs)))] sz)) 0 0 (va_A [(h0, .inr (2, [.ref h1])), (h1, .inl (dL, 1089, .inr (.inl g))), (b0, .inr (2, [.ref b1])), (b1, .inl (dL, 1089, .inr (.inl gb))), (s0, .inr (1, [.ref s1, .ref s2])), (s1, .inl (dA, 32, .inl fs)), (s2, .inl (dL, 33, .inr (.inl gs)))] sz) := by
  refine Met.ofW (cc := cX2_above) (maxL := 6) (ret := none) (by decide) rfl ?_
  intro p e s m args below meth c s₁ B hml hv
  obtain ⟨rfl, hsz, hP, hK, hD0⟩ := hv
  have hx := B.exec
  have hb := B.bytes
  have hr := B.returns
  have hts := atoms_spec (ws := ws_ yX2_above cX2_above 6 none) B.pre
  have hts : ∀ w ∈ lw_all, w.before _ s = true := fun w h => hts w (List.mem_cons_of_mem _ h)
  have hown : s.vm.findClass RX2 = some m.cls := findClass_of_methodNamed B.named
  have hlocks := B.notSynchronized
  subst hsz
  have hD := hD0.self (sz := s.heap.size)
  generalize hAe : va_A [(h0, .inr (2, [.ref h1])), (h1, .inl (dL, 1089, .inr (.inl g))), (b0, .inr (2, [.ref b1])), (b1, .inl (dL, 1089, .inr (.inl gb))), (s0, .inr (1, [.ref s1, .ref s2])), (s1, .inl (dA, 32, .inl fs)), (s2, .inl (dL, 33, .inr (.inl gs)))] s.heap.size = A at hD ⊢
  have hA : ∀ q : Nat, s.heap.size ≤ q → A q := fun q h => by rw [← hAe]; exact Or.inr h
  have hS : va_S A s.heap s.heap [] := va_S.rf
  have hl := lv_entry ([.ref h0, .ref b0, .ref s0, .int (nI n)]) (n := 6) (Nat.le_of_ble_eq_true rfl)
  rw [lg_entry_eq]
  generalize (lg_sl ([.ref h0, .ref b0, .ref s0, .int (nI n)]) ++ List.replicate (6 - (lg_sl ([.ref h0, .ref b0, .ref s0, .int (nI n)])).length) Slot.unset).toArray = ls at hl ⊢
  have hl : lv_has ls 6 [(0, .ref h0), (1, .ref b0), (2, .ref s0), (3, .int (nI n))] := hl
  refine lv_iconst (v := nI 0) hx hb dX2_above_0 (by decide) ?_
  refine lv_istore (lv' := [(4, .int (nI 0)), (0, .ref h0), (1, .ref b0), (2, .ref s0), (3, .int (nI n))]) hx hb dX2_above_1 hl (by decide) rfl (fun ls hl => ?_)
  have X0 : tc_X p s m meth c _ cX2_above 6 RX2 none A := ⟨hx, hb, hr, hml, hown, hts, hlocks, hA⟩
  refine abv_out X0 hK ⟨Nat.le_of_ble_eq_true rfl, Nat.le_of_ble_eq_true rfl⟩ ⟨Nat.le_of_ble_eq_true rfl, Nat.le_of_ble_eq_true rfl⟩ h0 h1 b0 b1 s0 s1 s2 n gb gs fs cb S hn hcb hgb hgs hSb (fun g H locs ls hI hw9 hl => ?_) (n + 1) 0 g s.heap [] ls (by omega) tc_fill_0 ⟨hP, hD, hS⟩ (lv_sub hl [1, 2, 3, 4, 0] rfl)
  obtain ⟨hP, hD, hS⟩ := hw9
  have hP9 := hP.sub (ws' := [(h0, .inr (2, [.ref h1])), (h1, .inl (dL, 1089, .inr (.inl g))), (b0, .inr (2, [.ref b1])), (b1, .inl (dL, 1089, .inr (.inl gb))), (s0, .inr (1, [.ref s1, .ref s2])), (s1, .inl (dA, 32, .inl fs)), (s2, .inl (dL, 33, .inr (.inl gs)))]) [0, 1, 2, 3, 4, 5, 6] rfl
  have hD9 := hD.sub (ws' := [(h0, .inr (2, [.ref h1])), (h1, .inl (dL, 1089, .inr (.inl g))), (b0, .inr (2, [.ref b1])), (b1, .inl (dL, 1089, .inr (.inl gb))), (s0, .inr (1, [.ref s1, .ref s2])), (s1, .inl (dA, 32, .inl fs)), (s2, .inl (dL, 33, .inr (.inl gs)))]) [0, 1, 2, 3, 4, 5, 6] (by decide) rfl
  exact W.vret hx hb hr (fun t ht hW => ⟨⟨g, rfl, hI, tc_end hP9 hK hD9 ht hW⟩, hS.F ht⟩) hS.2.2 dX2_above_48
end
section
/-! TrimCodes.least -/
def tc_ans (w : Nat → Nat) (n lim : Nat) : Int64 := if n ≤ 2 ^ lim then lN (tc_opt (tc_S w n) n lim) else -1
theorem tc_pow {lim : Nat} (h : lim ≤ 15) : 2 ^ lim ≤ 32768 := Nat.pow_le_pow_right (n := 2) (by decide) h
set_option maxHeartbeats 4000000 in
set_option maxRecDepth 100000 in
theorem lst_lp {p : Program} {l : Launch} {e : Env} {R : Room} {s : State} {m : MethodId} {args : Array Value} {below : List Frame} {meth : Method} {c : Code} {mc0 ms0 : Nat} {Q : State → Prop} {D : va_G} {dA dL : ClassId} {A : Nat → Prop} (X0 : tc_X p s m meth c args cX0_least 3 RX0 (some .long) A) (hK : va_K D vwCl (tA dA dL) s) (hR : 4 ≤ R.frames ∧ 96 ≤ R.locals) (hF : mc0 ≤ R.cells ∧ ms0 ≤ R.slots) (h0 aw as ao au n lim : Nat) (fw fs : Nat → Int32) (gs : Nat → Int64) (S : Nat → Nat) (hn : n ≤ 16) (hlim : lim ≤ 15) (hgs : ∀ k, k ≤ n → gs k = lN (S k)) (hSb : ∀ k, k ≤ n → S k ≤ 34359738368)
    (kk : ∀ (an anc ax axc : Nat) (gn gx : Nat → Int64) (H : Heap) (locs : List Loc) (ls : Array Slot), tc_fill (tc_E S (lim + 1)) (n + 1) 0 gn → tc_w s D A [(h0, .inr (0, [.ref aw, .int (nI n), .int (nI lim), .ref as, .ref an, .ref ax])), (aw, .inl (dA, 32, .inl fw)), (as, .inr (1, [.ref ao, .ref au])), (ao, .inl (dA, 32, .inl fs)), (au, .inl (dL, 33, .inr (.inl gs))), (an, .inr (2, [.ref anc])), (anc, .inl (dL, 1089, .inr (.inl gn))), (ax, .inr (2, [.ref axc])), (axc, .inl (dL, 1089, .inr (.inl gx)))] H locs → lv_has ls 3 [(0, .ref h0), (1, .int (nI lim))] → W p l e R s m args below meth c H locs mc0 ms0 Q (F0 m 96 ls []))
    : ∀ (d k : Nat) (an anc ax axc : Nat) (gn gx : Nat → Int64) (H : Heap) (locs : List Loc) (ls : Array Slot), k + d = lim → tc_fill (tc_E S (k + 1)) (n + 1) 0 gn → tc_w s D A [(h0, .inr (0, [.ref aw, .int (nI n), .int (nI lim), .ref as, .ref an, .ref ax])), (aw, .inl (dA, 32, .inl fw)), (as, .inr (1, [.ref ao, .ref au])), (ao, .inl (dA, 32, .inl fs)), (au, .inl (dL, 33, .inr (.inl gs))), (an, .inr (2, [.ref anc])), (anc, .inl (dL, 1089, .inr (.inl gn))), (ax, .inr (2, [.ref axc])), (axc, .inl (dL, 1089, .inr (.inl gx)))] H locs → lv_has ls 3 [(0, .ref h0), (1, .int (nI k))] → W p l e R s m args below meth c H locs mc0 ms0 Q (F0 m 45 ls []) := by
  obtain ⟨hx, hb, hr, hml, hown, hts, hlocks, hA⟩ := id X0
  intro d
  induction d with
  | zero =>
    intro k an anc ax axc gn gx H locs ls hd hI hw9 hl
    obtain ⟨hP, hD, hS⟩ := hw9
    have hd : k = lim := by omega
    subst hd
    refine lv_iload_n hx hb dX0_least_45 rfl (lv_at hl 1 rfl) ?_
    refine lv_aload_n hx hb dX0_least_46 rfl (lv_at hl 0 rfl) ?_
    refine va_get (D := D) (ci := 0) (v := .int (nI k)) (C := RX0) (T := TX0) (N := 6) hx hb hts in_X0 hown hK hP 0 rfl rfl 2 (by decide) (hts _ q41) (fun _ h9 => h9) rfl dX0_least_47 ?_
    refine tc_icmp_ge hx hb 96 dX0_least_50 (by decide) (by omega) (by omega) (fun _ => ?_) (fun c9 => absurd c9 (by omega))
    exact kk an anc ax axc gn gx H locs ls hI ⟨hP, hD, hS⟩ hl
  | succ d ih =>
    intro k an anc ax axc gn gx H locs ls hd hI hw9 hl
    obtain ⟨hP, hD, hS⟩ := hw9
    refine lv_iload_n hx hb dX0_least_45 rfl (lv_at hl 1 rfl) ?_
    refine lv_aload_n hx hb dX0_least_46 rfl (lv_at hl 0 rfl) ?_
    refine va_get (D := D) (ci := 0) (v := .int (nI lim)) (C := RX0) (T := TX0) (N := 6) hx hb hts in_X0 hown hK hP 0 rfl rfl 2 (by decide) (hts _ q41) (fun _ h9 => h9) rfl dX0_least_47 ?_
    refine tc_icmp_ge hx hb 96 dX0_least_50 (by decide) (by omega) (by omega) (fun c9 => absurd c9 (by omega)) (fun _ => ?_)
    refine lv_aload_n hx hb dX0_least_53 rfl (lv_at hl 0 rfl) ?_
    refine va_get (D := D) (ci := 0) (v := .ref ax) (C := RX0) (T := TX0) (N := 6) hx hb hts in_X0 hown hK hP 0 rfl rfl 5 (by decide) (hts _ q44) (fun _ h9 => h9) rfl dX0_least_54 ?_
    refine lv_aload_n hx hb dX0_least_57 rfl (lv_at hl 0 rfl) ?_
    refine va_get (D := D) (ci := 0) (v := .ref an) (C := RX0) (T := TX0) (N := 6) hx hb hts in_X0 hown hK hP 0 rfl rfl 4 (by decide) (hts _ q43) (fun _ h9 => h9) rfl dX0_least_58 ?_
    refine lv_aload_n hx hb dX0_least_61 rfl (lv_at hl 0 rfl) ?_
    refine va_get (D := D) (ci := 0) (v := .ref as) (C := RX0) (T := TX0) (N := 6) hx hb hts in_X0 hown hK hP 0 rfl rfl 3 (by decide) (hts _ q42) (fun _ h9 => h9) rfl dX0_least_62 ?_
    refine lv_aload_n hx hb dX0_least_65 rfl (lv_at hl 0 rfl) ?_
    refine va_get (D := D) (ci := 0) (v := .int (nI n)) (C := RX0) (T := TX0) (N := 6) hx hb hts in_X0 hown hK hP 0 rfl rfl 1 (by decide) (hts _ q40) (fun _ h9 => h9) rfl dX0_least_66 ?_
    have hPc := hP.sub (ws' := [(ax, .inr (2, [.ref axc])), (axc, .inl (dL, 1089, .inr (.inl gx))), (an, .inr (2, [.ref anc])), (anc, .inl (dL, 1089, .inr (.inl gn))), (as, .inr (1, [.ref ao, .ref au])), (ao, .inl (dA, 32, .inl fs)), (au, .inl (dL, 33, .inr (.inl gs)))]) [7, 8, 5, 6, 2, 3, 4] rfl
    have hDc := hD.sub (ws' := [(ax, .inr (2, [.ref axc])), (axc, .inl (dL, 1089, .inr (.inl gx))), (an, .inr (2, [.ref anc])), (anc, .inl (dL, 1089, .inr (.inl gn))), (as, .inr (1, [.ref ao, .ref au])), (ao, .inl (dA, 32, .inl fs)), (au, .inl (dL, 33, .inr (.inl gs)))]) [7, 8, 5, 6, 2, 3, 4] (by decide) rfl
    have hFc := va_free (wc := [(ax, .inr (2, [.ref axc])), (axc, .inl (dL, 1089, .inr (.inl gx))), (an, .inr (2, [.ref anc])), (anc, .inl (dL, 1089, .inr (.inl gn))), (as, .inr (1, [.ref ao, .ref au])), (ao, .inl (dA, 32, .inl fs)), (au, .inl (dL, 33, .inr (.inl gs)))]) hD hS hA [7, 8, 5, 6, 2, 3, 4] rfl
    refine va_callv (va_runV (As := [.ref an, .ref as, .int (nI n)]) (rest := []) ⟨hx, hb, hml, hown, hts⟩ (met_above l D dA dL ax axc an anc as ao au n gn gs fs (tc_E S (k + 1)) S gx H.size hn (tc_E_NEV S (k + 1)) (fun l m h1 h2 => hI l m h2 (Or.inl (by omega))) hgs hSb) (cwV 3 hts (lw_V q89 q90 q91 q3 q92) rfl rfl rfl (by decide +kernel) ⟨Nat.le_trans (Nat.le_of_ble_eq_true rfl) hR.1, Nat.le_trans (Nat.le_of_ble_eq_true rfl) hR.2⟩) ⟨tc_blind, va_recv hK hPc (ci := 2) (q0 := 0) rfl rfl, tc_pre hPc hK hDc⟩ rfl rfl hl.1 rfl (lv_room (Nat.le_of_ble_eq_true rfl)) dX0_least_69 hF) hS (fun q _ h => hFc q h) hFc (fun u t9 H1 locs ht hvm h9 hB hz1 hk1 hS => ?_)
    obtain ⟨g1, rfl⟩ : ∃ z, z = u := ⟨_, rfl⟩
    obtain ⟨hP1, -, hD1⟩ := hB
    rw [ht] at hP1
    obtain ⟨hP, hD⟩ := va_join (wr := [(h0, .inr (0, [.ref aw, .int (nI n), .int (nI lim), .ref as, .ref an, .ref ax])), (aw, .inl (dA, 32, .inl fw))]) (w1 := [(ax, .inr (2, [.ref axc])), (axc, .inl (dL, 1089, .inr (.inl g1))), (an, .inr (2, [.ref anc])), (anc, .inl (dL, 1089, .inr (.inl gn))), (as, .inr (1, [.ref ao, .ref au])), (ao, .inl (dA, 32, .inl fs)), (au, .inl (dL, 33, .inr (.inl gs)))]) hP hD [7, 8, 5, 6, 2, 3, 4] [0, 1] rfl rfl (by decide) (by decide) hk1 hFc hP1 hD1
    generalize H1 = H at hP hS ⊢
    have hP : va_P D vwCl [(h0, .inr (0, [.ref aw, .int (nI n), .int (nI lim), .ref as, .ref an, .ref ax])), (aw, .inl (dA, 32, .inl fw)), (as, .inr (1, [.ref ao, .ref au])), (ao, .inl (dA, 32, .inl fs)), (au, .inl (dL, 33, .inr (.inl gs))), (an, .inr (2, [.ref anc])), (anc, .inl (dL, 1089, .inr (.inl gn))), (ax, .inr (2, [.ref axc])), (axc, .inl (dL, 1089, .inr (.inl g1)))] H := hP.sub [0, 1, 6, 7, 8, 4, 5, 2, 3] rfl
    have hD : va_D A [(h0, .inr (0, [.ref aw, .int (nI n), .int (nI lim), .ref as, .ref an, .ref ax])), (aw, .inl (dA, 32, .inl fw)), (as, .inr (1, [.ref ao, .ref au])), (ao, .inl (dA, 32, .inl fs)), (au, .inl (dL, 33, .inr (.inl gs))), (an, .inr (2, [.ref anc])), (anc, .inl (dL, 1089, .inr (.inl gn))), (ax, .inr (2, [.ref axc])), (axc, .inl (dL, 1089, .inr (.inl g1)))] := hD.sub [0, 1, 6, 7, 8, 4, 5, 2, 3] (by decide) rfl
    refine W.widen (k := mc0) (n := ms0) (Nat.le_refl _) (Nat.le_refl _) ?_
    refine lv_aload_n hx hb dX0_least_72 rfl (lv_at hl 0 rfl) ?_
    refine va_get (D := D) (ci := 0) (v := .ref an) (C := RX0) (T := TX0) (N := 6) hx hb hts in_X0 hown hK hP 0 rfl rfl 4 (by decide) (hts _ q43) (fun _ h9 => h9) rfl dX0_least_73 ?_
    refine lv_astore_n (lv' := [(2, .ref an), (0, .ref h0), (1, .int (nI k))]) hx hb dX0_least_76 rfl hl (by decide) rfl (fun ls hl => ?_)
    refine lv_aload_n hx hb dX0_least_77 rfl (lv_at hl 1 rfl) ?_
    refine lv_aload_n hx hb dX0_least_78 rfl (lv_at hl 1 rfl) ?_
    refine va_get (D := D) (ci := 0) (v := .ref ax) (C := RX0) (T := TX0) (N := 6) hx hb hts in_X0 hown hK hP 0 rfl rfl 5 (by decide) (hts _ q44) (fun _ h9 => h9) rfl dX0_least_79 ?_
    refine va_put (D := D) (ci := 0) (v := .ref ax) (ty := .object "TrimCodes$Level") (C := RX0) (T := TX0) (N := 6) hx hb hts in_X0 tyX0 tyX0_ok nmX0 hown hK hP hD hS 0 rfl rfl 4 (by decide) (hts _ q43) (fun _ h9 => h9) rfl (by decide +kernel) rfl rfl (Nat.le_of_ble_eq_true rfl) dX0_least_82 (fun H locs hP hD hS => ?_)
    have hP : va_P D vwCl [(h0, .inr (0, [.ref aw, .int (nI n), .int (nI lim), .ref as, .ref ax, .ref ax])), (aw, .inl (dA, 32, .inl fw)), (as, .inr (1, [.ref ao, .ref au])), (ao, .inl (dA, 32, .inl fs)), (au, .inl (dL, 33, .inr (.inl gs))), (an, .inr (2, [.ref anc])), (anc, .inl (dL, 1089, .inr (.inl gn))), (ax, .inr (2, [.ref axc])), (axc, .inl (dL, 1089, .inr (.inl g1)))] H := hP
    have hD : va_D A [(h0, .inr (0, [.ref aw, .int (nI n), .int (nI lim), .ref as, .ref ax, .ref ax])), (aw, .inl (dA, 32, .inl fw)), (as, .inr (1, [.ref ao, .ref au])), (ao, .inl (dA, 32, .inl fs)), (au, .inl (dL, 33, .inr (.inl gs))), (an, .inr (2, [.ref anc])), (anc, .inl (dL, 1089, .inr (.inl gn))), (ax, .inr (2, [.ref axc])), (axc, .inl (dL, 1089, .inr (.inl g1)))] := hD
    refine lv_aload_n hx hb dX0_least_85 rfl (lv_at hl 1 rfl) ?_
    refine lv_aload_n hx hb dX0_least_86 rfl (lv_at hl 0 rfl) ?_
    refine va_put (D := D) (ci := 0) (v := .ref an) (ty := .object "TrimCodes$Level") (C := RX0) (T := TX0) (N := 6) hx hb hts in_X0 tyX0 tyX0_ok nmX0 hown hK hP hD hS 0 rfl rfl 5 (by decide) (hts _ q44) (fun _ h9 => h9) rfl (by decide +kernel) rfl rfl (Nat.le_of_ble_eq_true rfl) dX0_least_87 (fun H locs hP hD hS => ?_)
    have hP : va_P D vwCl [(h0, .inr (0, [.ref aw, .int (nI n), .int (nI lim), .ref as, .ref ax, .ref an])), (aw, .inl (dA, 32, .inl fw)), (as, .inr (1, [.ref ao, .ref au])), (ao, .inl (dA, 32, .inl fs)), (au, .inl (dL, 33, .inr (.inl gs))), (an, .inr (2, [.ref anc])), (anc, .inl (dL, 1089, .inr (.inl gn))), (ax, .inr (2, [.ref axc])), (axc, .inl (dL, 1089, .inr (.inl g1)))] H := hP
    have hD : va_D A [(h0, .inr (0, [.ref aw, .int (nI n), .int (nI lim), .ref as, .ref ax, .ref an])), (aw, .inl (dA, 32, .inl fw)), (as, .inr (1, [.ref ao, .ref au])), (ao, .inl (dA, 32, .inl fs)), (au, .inl (dL, 33, .inr (.inl gs))), (an, .inr (2, [.ref anc])), (anc, .inl (dL, 1089, .inr (.inl gn))), (ax, .inr (2, [.ref axc])), (axc, .inl (dL, 1089, .inr (.inl g1)))] := hD
    refine lv_iinc (v := (nI (k + 1))) (lv' := [(1, .int (nI (k + 1))), (2, .ref an), (0, .ref h0)]) hx hb dX0_least_90 hl (k := 2) rfl (nI_1 _) (by decide) rfl (fun ls hl => ?_)
    refine lv_goto (tgt := 45) hx hb dX0_least_93 (by decide) ?_
    exact ih (k + 1) ax axc an anc g1 gn H locs ls (by omega) h9 ⟨hP.sub [0, 1, 2, 3, 4, 7, 8, 5, 6] rfl, hD.sub [0, 1, 2, 3, 4, 7, 8, 5, 6] (by decide) rfl, hS⟩ (lv_sub hl [2, 0] rfl)
set_option maxHeartbeats 4000000 in
set_option maxRecDepth 100000 in
theorem met_least0 (l : Launch) (D : va_G) (dA dL : ClassId) (h0 aw as ao au an anc ax axc n lim : Nat) (fw fs : Nat → Int32) (gs gn gx : Nat → Int64) (w : Nat → Nat) (sz : Nat) (hn2 : 2 ≤ n) (hn : n ≤ 16) (hlim : lim ≤ 15) (hw0 : ∀ i, fw i = nI (w i) ∧ w i < 2147483648) (hg : gs 0 = lN 0) : Met l yX0_least (ws_ yX0_least cX0_least 3 (some .long)) ({ frames := 4, cells := 0, slots := 0, locals := 96 }) (va_Pc [.ref h0] (tc_Pre D dA dL [(h0, .inr (0, [.ref aw, .int (nI n), .int (nI lim), .ref as, .ref an, .ref ax])), (aw, .inl (dA, 32, .inl fw)), (as, .inr (1, [.ref ao, .ref au])), (ao, .inl (dA, 32, .inl fs)), (au, .inl (dL, 33, .inr (.inl gs))), (an, .inr (2, [.ref anc])), (anc, .inl (dL, 1089, .inr (.inl gn))), (ax, .inr (2, [.ref axc])), (axc, .inl (dL, 1089, .inr (.inl gx)))] sz)) (va_Ql (fun (r : Int64) (_ : Unit) => r = tc_ans w n lim) (fun _ t => ∃ (fs2 : Nat → Int32) (gs2 : Nat → Int64) (an2 anc2 ax2 axc2 : Nat) (gn2 gx2 : Nat → Int64), gs2 0 = lN 0 ∧ tc_B D dA dL (va_A [(h0, .inr (0, [.ref aw, .int (nI n), .int (nI lim), .ref as, .ref an, .ref ax])), (aw, .inl (dA, 32, .inl fw)), (as, .inr (1, [.ref ao, .ref au])), (ao, .inl (dA, 32, .inl fs)), (au, .inl (dL, 33, .inr (.inl gs))), (an, .inr (2, [.ref anc])), (anc, .inl (dL, 1089, .inr (.inl gn))), (ax, .inr (2, [.ref axc])), (axc, .inl (dL, 1089, .inr (.inl gx)))] sz) [(h0, .inr (0, [.ref aw, .int (nI n), .int (nI lim), .ref as, .ref an2, .ref ax2])), (aw, .inl (dA, 32, .inl fw)), (as, .inr (1, [.ref ao, .ref au])), (ao, .inl (dA, 32, .inl fs2)), (au, .inl (dL, 33, .inr (.inl gs2))), (an2, .inr (2, [.ref anc2])), (anc2, .inl (dL, 1089, .inr (.inl gn2))), (ax2, .inr (2, [.ref axc2])), (axc2, .inl (dL, 1089, .inr (.inl gx2)))] t) (va_A [(h0, .inr (0, [.ref aw, .int (nI n), .int (nI lim), .ref as, .ref an, .ref ax])), (aw, .inl (dA, 32, .inl fw)), (as, .inr (1, [.ref ao, .ref au])), (ao, .inl (dA, 32, .inl fs)), (au, .inl (dL, 33, .inr (.inl gs))), (an, .inr (2, [.ref anc])), (anc, .inl (dL, 1089, .inr (.inl gn))), (ax, .inr (2, [.ref axc])), (axc, .inl (dL, 1089, .inr (.inl gx)))] sz)) 0 0 (va_A [(h0, .inr (0, [.ref aw, .int (nI n), .int (nI lim), .ref as, .ref an, .ref ax])), (aw, .inl (dA, 32, .inl fw)), (as, .inr (1, [.ref ao, .ref au])), (ao, .inl (dA, 32, .inl fs)), (au, .inl (dL, 33, .inr (.inl gs))), (an, .inr (2, [.ref anc])), (anc, .inl (dL, 1089, .inr (.inl gn))), (ax, .inr (2, [.ref axc])), (axc, .inl (dL, 1089, .inr (.inl gx)))] sz) := by
  refine Met.ofW (cc := cX0_least) (maxL := 3) (ret := (some .long)) (by decide) rfl ?_
  intro p e s m args below meth c s₁ B hml hv
  obtain ⟨rfl, hsz, hP, hK, hD0⟩ := hv
  have hx := B.exec
  have hb := B.bytes
  have hr := B.returns
  have hts := atoms_spec (ws := ws_ yX0_least cX0_least 3 (some .long)) B.pre
  have hts : ∀ w ∈ lw_all, w.before _ s = true := fun w h => hts w (List.mem_cons_of_mem _ h)
  have hown : s.vm.findClass RX0 = some m.cls := findClass_of_methodNamed B.named
  have hlocks := B.notSynchronized
  subst hsz
  have hD := hD0.self (sz := s.heap.size)
  generalize hAe : va_A [(h0, .inr (0, [.ref aw, .int (nI n), .int (nI lim), .ref as, .ref an, .ref ax])), (aw, .inl (dA, 32, .inl fw)), (as, .inr (1, [.ref ao, .ref au])), (ao, .inl (dA, 32, .inl fs)), (au, .inl (dL, 33, .inr (.inl gs))), (an, .inr (2, [.ref anc])), (anc, .inl (dL, 1089, .inr (.inl gn))), (ax, .inr (2, [.ref axc])), (axc, .inl (dL, 1089, .inr (.inl gx)))] s.heap.size = A at hD ⊢
  have hA : ∀ q : Nat, s.heap.size ≤ q → A q := fun q h => by rw [← hAe]; exact Or.inr h
  have hS : va_S A s.heap s.heap [] := va_S.rf
  have hl := lv_entry ([.ref h0]) (n := 3) (Nat.le_of_ble_eq_true rfl)
  rw [lg_entry_eq]
  generalize (lg_sl ([.ref h0]) ++ List.replicate (3 - (lg_sl ([.ref h0])).length) Slot.unset).toArray = ls at hl ⊢
  have hl : lv_has ls 3 [(0, .ref h0)] := hl
  have hp := tc_pow hlim
  refine lv_aload_n hx hb dX0_least_0 rfl (lv_at hl 0 rfl) ?_
  refine va_get (D := D) (ci := 0) (v := .int (nI n)) (C := RX0) (T := TX0) (N := 6) hx hb hts in_X0 hown hK hP 0 rfl rfl 1 (by decide) (hts _ q40) (fun _ h9 => h9) rfl dX0_least_1 ?_
  refine lv_iconst (v := nI 1) hx hb dX0_least_4 (by decide) ?_
  refine lv_aload_n hx hb dX0_least_5 rfl (lv_at hl 0 rfl) ?_
  refine va_get (D := D) (ci := 0) (v := .int (nI lim)) (C := RX0) (T := TX0) (N := 6) hx hb hts in_X0 hown hK hP 0 rfl rfl 2 (by decide) (hts _ q41) (fun _ h9 => h9) rfl dX0_least_6 ?_
  refine lv_ishl hx hb dX0_least_9 (tc_toi _ (tc_shl1 (by omega)) ?_)
  refine tc_icmp_le hx hb 17 dX0_least_10 (by decide) (by omega) (by omega) (fun c1 => ?_) (fun c1 => ?_)
  ·
    refine lv_aload_n hx hb dX0_least_17 rfl (lv_at hl 0 rfl) ?_
    refine va_get (D := D) (ci := 0) (v := .ref as) (C := RX0) (T := TX0) (N := 6) hx hb hts in_X0 hown hK hP 0 rfl rfl 3 (by decide) (hts _ q42) (fun _ h9 => h9) rfl dX0_least_18 ?_
    refine lv_aload_n hx hb dX0_least_21 rfl (lv_at hl 0 rfl) ?_
    refine va_get (D := D) (ci := 0) (v := .ref aw) (C := RX0) (T := TX0) (N := 6) hx hb hts in_X0 hown hK hP 0 rfl rfl 0 (by decide) (hts _ q39) (fun _ h9 => h9) rfl dX0_least_22 ?_
    refine lv_aload_n hx hb dX0_least_25 rfl (lv_at hl 0 rfl) ?_
    refine va_get (D := D) (ci := 0) (v := .int (nI n)) (C := RX0) (T := TX0) (N := 6) hx hb hts in_X0 hown hK hP 0 rfl rfl 1 (by decide) (hts _ q40) (fun _ h9 => h9) rfl dX0_least_26 ?_
    have hPc := hP.sub (ws' := [(as, .inr (1, [.ref ao, .ref au])), (ao, .inl (dA, 32, .inl fs)), (au, .inl (dL, 33, .inr (.inl gs))), (aw, .inl (dA, 32, .inl fw))]) [2, 3, 4, 1] rfl
    have hDc := hD.sub (ws' := [(as, .inr (1, [.ref ao, .ref au])), (ao, .inl (dA, 32, .inl fs)), (au, .inl (dL, 33, .inr (.inl gs))), (aw, .inl (dA, 32, .inl fw))]) [2, 3, 4, 1] (by decide) rfl
    have hFc := va_free (wc := [(as, .inr (1, [.ref ao, .ref au])), (ao, .inl (dA, 32, .inl fs)), (au, .inl (dL, 33, .inr (.inl gs))), (aw, .inl (dA, 32, .inl fw))]) hD hS hA [2, 3, 4, 1] rfl
    refine va_callv (va_runV (As := [.ref aw, .int (nI n)]) (rest := []) ⟨hx, hb, hml, hown, hts⟩ (met_of l D dA dL as ao au aw n fs fw gs w s.heap.size hn hw0 hg) (cwV 2 hts (lw_V q76 q77 q78 q2 q79) rfl rfl rfl (by decide +kernel) ⟨Nat.le_of_ble_eq_true rfl, Nat.le_of_ble_eq_true rfl⟩) ⟨tc_blind, va_recv hK hPc (ci := 1) (q0 := 0) rfl rfl, tc_pre hPc hK hDc⟩ rfl rfl hl.1 rfl (lv_room (Nat.le_of_ble_eq_true rfl)) dX0_least_29 ⟨by show _ ≤ 0; omega, by show _ ≤ 0; omega⟩) hS (fun q _ h => hFc q h) hFc (fun u t9 H1 locs ht hvm h9 hB hz1 hk1 hS => ?_)
    obtain ⟨fs1, gs1⟩ := u
    have hgs : ∀ k, k ≤ n → gs1 k = lN (tc_S w n k) := h9
    obtain ⟨hP1, -, hD1⟩ := hB
    rw [ht] at hP1
    obtain ⟨hP, hD⟩ := va_join (wr := [(h0, .inr (0, [.ref aw, .int (nI n), .int (nI lim), .ref as, .ref an, .ref ax])), (an, .inr (2, [.ref anc])), (anc, .inl (dL, 1089, .inr (.inl gn))), (ax, .inr (2, [.ref axc])), (axc, .inl (dL, 1089, .inr (.inl gx)))]) (w1 := [(as, .inr (1, [.ref ao, .ref au])), (ao, .inl (dA, 32, .inl fs1)), (au, .inl (dL, 33, .inr (.inl gs1))), (aw, .inl (dA, 32, .inl fw))]) hP hD [2, 3, 4, 1] [0, 5, 6, 7, 8] rfl rfl (by decide) (by decide) hk1 hFc hP1 hD1
    generalize H1 = H at hP hS ⊢
    have hP : va_P D vwCl [(h0, .inr (0, [.ref aw, .int (nI n), .int (nI lim), .ref as, .ref an, .ref ax])), (aw, .inl (dA, 32, .inl fw)), (as, .inr (1, [.ref ao, .ref au])), (ao, .inl (dA, 32, .inl fs1)), (au, .inl (dL, 33, .inr (.inl gs1))), (an, .inr (2, [.ref anc])), (anc, .inl (dL, 1089, .inr (.inl gn))), (ax, .inr (2, [.ref axc])), (axc, .inl (dL, 1089, .inr (.inl gx)))] H := hP.sub [0, 8, 5, 6, 7, 1, 2, 3, 4] rfl
    have hD : va_D A [(h0, .inr (0, [.ref aw, .int (nI n), .int (nI lim), .ref as, .ref an, .ref ax])), (aw, .inl (dA, 32, .inl fw)), (as, .inr (1, [.ref ao, .ref au])), (ao, .inl (dA, 32, .inl fs1)), (au, .inl (dL, 33, .inr (.inl gs1))), (an, .inr (2, [.ref anc])), (anc, .inl (dL, 1089, .inr (.inl gn))), (ax, .inr (2, [.ref axc])), (axc, .inl (dL, 1089, .inr (.inl gx)))] := hD.sub [0, 8, 5, 6, 7, 1, 2, 3, 4] (by decide) rfl
    refine lv_aload_n hx hb dX0_least_32 rfl (lv_at hl 0 rfl) ?_
    refine va_get (D := D) (ci := 0) (v := .ref an) (C := RX0) (T := TX0) (N := 6) hx hb hts in_X0 hown hK hP 0 rfl rfl 4 (by decide) (hts _ q43) (fun _ h9 => h9) rfl dX0_least_33 ?_
    refine lv_aload_n hx hb dX0_least_36 rfl (lv_at hl 0 rfl) ?_
    refine va_get (D := D) (ci := 0) (v := .int (nI n)) (C := RX0) (T := TX0) (N := 6) hx hb hts in_X0 hown hK hP 0 rfl rfl 1 (by decide) (hts _ q40) (fun _ h9 => h9) rfl dX0_least_37 ?_
    have hPc := hP.sub (ws' := [(an, .inr (2, [.ref anc])), (anc, .inl (dL, 1089, .inr (.inl gn)))]) [5, 6] rfl
    have hDc := hD.sub (ws' := [(an, .inr (2, [.ref anc])), (anc, .inl (dL, 1089, .inr (.inl gn)))]) [5, 6] (by decide) rfl
    have hFc := va_free (wc := [(an, .inr (2, [.ref anc])), (anc, .inl (dL, 1089, .inr (.inl gn)))]) hD hS hA [5, 6] rfl
    refine va_callv (va_runV (As := [.int (nI n)]) (rest := []) ⟨hx, hb, hml, hown, hts⟩ (met_end l D dA dL an anc n gn H.size hn) (cwV 1 hts (lw_V q80 q81 q82 q3 q83) rfl rfl rfl (by decide +kernel) ⟨Nat.le_of_ble_eq_true rfl, Nat.le_of_ble_eq_true rfl⟩) ⟨tc_blind, va_recv hK hPc (ci := 2) (q0 := 0) rfl rfl, tc_pre hPc hK hDc⟩ rfl rfl hl.1 rfl (lv_room (Nat.le_of_ble_eq_true rfl)) dX0_least_40 ⟨by show _ ≤ 0; omega, by show _ ≤ 0; omega⟩) hS (fun q _ h => hFc q h) hFc (fun u t9 H1 locs ht hvm h8 hB hz1 hk1 hS => ?_)
    obtain ⟨gn1, rfl⟩ : ∃ z, z = u := ⟨_, rfl⟩
    obtain ⟨hP1, -, hD1⟩ := hB
    rw [ht] at hP1
    obtain ⟨hP, hD⟩ := va_join (wr := [(h0, .inr (0, [.ref aw, .int (nI n), .int (nI lim), .ref as, .ref an, .ref ax])), (aw, .inl (dA, 32, .inl fw)), (as, .inr (1, [.ref ao, .ref au])), (ao, .inl (dA, 32, .inl fs1)), (au, .inl (dL, 33, .inr (.inl gs1))), (ax, .inr (2, [.ref axc])), (axc, .inl (dL, 1089, .inr (.inl gx)))]) (w1 := [(an, .inr (2, [.ref anc])), (anc, .inl (dL, 1089, .inr (.inl gn1)))]) hP hD [5, 6] [0, 1, 2, 3, 4, 7, 8] rfl rfl (by decide) (by decide) hk1 hFc hP1 hD1
    generalize H1 = H at hP hS ⊢
    have hP : va_P D vwCl [(h0, .inr (0, [.ref aw, .int (nI n), .int (nI lim), .ref as, .ref an, .ref ax])), (aw, .inl (dA, 32, .inl fw)), (as, .inr (1, [.ref ao, .ref au])), (ao, .inl (dA, 32, .inl fs1)), (au, .inl (dL, 33, .inr (.inl gs1))), (an, .inr (2, [.ref anc])), (anc, .inl (dL, 1089, .inr (.inl gn1))), (ax, .inr (2, [.ref axc])), (axc, .inl (dL, 1089, .inr (.inl gx)))] H := hP.sub [0, 1, 2, 3, 4, 7, 8, 5, 6] rfl
    have hD : va_D A [(h0, .inr (0, [.ref aw, .int (nI n), .int (nI lim), .ref as, .ref an, .ref ax])), (aw, .inl (dA, 32, .inl fw)), (as, .inr (1, [.ref ao, .ref au])), (ao, .inl (dA, 32, .inl fs1)), (au, .inl (dL, 33, .inr (.inl gs1))), (an, .inr (2, [.ref anc])), (anc, .inl (dL, 1089, .inr (.inl gn1))), (ax, .inr (2, [.ref axc])), (axc, .inl (dL, 1089, .inr (.inl gx)))] := hD.sub [0, 1, 2, 3, 4, 7, 8, 5, 6] (by decide) rfl
    refine lv_iconst (v := nI 0) hx hb dX0_least_43 (by decide) ?_
    refine lv_istore_n (lv' := [(1, .int (nI 0)), (0, .ref h0)]) hx hb dX0_least_44 rfl hl (by decide) rfl (fun ls hl => ?_)
    have X0 : tc_X p s m meth c _ cX0_least 3 RX0 (some .long) A := ⟨hx, hb, hr, hml, hown, hts, hlocks, hA⟩
    have hSb : ∀ k, k ≤ n → tc_S w n k ≤ 34359738368 := fun k hk => Nat.le_trans (tc_S_le (fun i => (hw0 i).2) k) (Nat.mul_le_mul_right 2147483648 (show k ≤ 16 by omega))
    have hE : tc_fill (tc_E (tc_S w n) (0 + 1)) (n + 1) 0 gn1 := fun l m h1 h2 => (h8 l m h1 h2).trans (congrArg lN (tc_e0_E _ l m).symm)
    refine lst_lp X0 hK ⟨Nat.le_of_ble_eq_true rfl, Nat.le_of_ble_eq_true rfl⟩ ⟨Nat.le_of_ble_eq_true rfl, Nat.le_of_ble_eq_true rfl⟩ h0 aw as ao au n lim fw fs1 gs1 (tc_S w n) hn hlim hgs hSb (fun an anc ax axc gn gx H locs ls hI hw9 hl => ?_) lim 0 an anc ax axc gn1 gx H locs ls (by omega) hE ⟨hP, hD, hS⟩ (lv_sub hl [1, 0] rfl)
    obtain ⟨hP, hD, hS⟩ := hw9
    refine lv_aload_n hx hb dX0_least_96 rfl (lv_at hl 0 rfl) ?_
    refine va_get (D := D) (ci := 0) (v := .ref an) (C := RX0) (T := TX0) (N := 6) hx hb hts in_X0 hown hK hP 0 rfl rfl 4 (by decide) (hts _ q43) (fun _ h9 => h9) rfl dX0_least_97 ?_
    refine lv_aload_n hx hb dX0_least_100 rfl (lv_at hl 0 rfl) ?_
    refine va_get (D := D) (ci := 0) (v := .int (nI n)) (C := RX0) (T := TX0) (N := 6) hx hb hts in_X0 hown hK hP 0 rfl rfl 1 (by decide) (hts _ q40) (fun _ h9 => h9) rfl dX0_least_101 ?_
    refine lv_iconst (v := nI 1) hx hb dX0_least_104 (by decide) ?_
    have hPc := hP.sub (ws' := [(an, .inr (2, [.ref anc])), (anc, .inl (dL, 1089, .inr (.inl gn)))]) [5, 6] rfl
    have hDc := hD.sub (ws' := [(an, .inr (2, [.ref anc])), (anc, .inl (dL, 1089, .inr (.inl gn)))]) [5, 6] (by decide) rfl
    have hFc := va_free (wc := [(an, .inr (2, [.ref anc])), (anc, .inl (dL, 1089, .inr (.inl gn)))]) hD hS hA [5, 6] rfl
    refine va_calll (va_runV (As := [.int (nI n), .int (nI 1)]) (rest := []) ⟨hx, hb, hml, hown, hts⟩ (met_get l D dA dL an anc n 1 gn H.size (by omega) (by decide)) (cwV 2 hts (lw_V q110 q97 q98 q3 q99) rfl rfl rfl (by decide +kernel) ⟨Nat.le_of_ble_eq_true rfl, Nat.le_of_ble_eq_true rfl⟩) ⟨tc_blind, va_recv hK hPc (ci := 2) (q0 := 0) rfl rfl, tc_pre hPc hK hDc⟩ rfl rfl hl.1 rfl (lv_room (Nat.le_of_ble_eq_true rfl)) dX0_least_105 ⟨by show _ ≤ 0; omega, by show _ ≤ 0; omega⟩) hS (fun q _ h => hFc q h) hFc (fun r1 u t9 H1 locs ht hvm hr1 hB hz1 hk1 hS => ?_)
    obtain ⟨hP1, -, hD1⟩ := hB
    rw [ht] at hP1
    obtain ⟨hP, hD⟩ := va_join (wr := [(h0, .inr (0, [.ref aw, .int (nI n), .int (nI lim), .ref as, .ref an, .ref ax])), (aw, .inl (dA, 32, .inl fw)), (as, .inr (1, [.ref ao, .ref au])), (ao, .inl (dA, 32, .inl fs1)), (au, .inl (dL, 33, .inr (.inl gs1))), (ax, .inr (2, [.ref axc])), (axc, .inl (dL, 1089, .inr (.inl gx)))]) (w1 := [(an, .inr (2, [.ref anc])), (anc, .inl (dL, 1089, .inr (.inl gn)))]) hP hD [5, 6] [0, 1, 2, 3, 4, 7, 8] rfl rfl (by decide) (by decide) hk1 hFc hP1 hD1
    generalize H1 = H at hP hS ⊢
    have hP : va_P D vwCl [(h0, .inr (0, [.ref aw, .int (nI n), .int (nI lim), .ref as, .ref an, .ref ax])), (aw, .inl (dA, 32, .inl fw)), (as, .inr (1, [.ref ao, .ref au])), (ao, .inl (dA, 32, .inl fs1)), (au, .inl (dL, 33, .inr (.inl gs1))), (an, .inr (2, [.ref anc])), (anc, .inl (dL, 1089, .inr (.inl gn))), (ax, .inr (2, [.ref axc])), (axc, .inl (dL, 1089, .inr (.inl gx)))] H := hP.sub [0, 1, 2, 3, 4, 7, 8, 5, 6] rfl
    have hD : va_D A [(h0, .inr (0, [.ref aw, .int (nI n), .int (nI lim), .ref as, .ref an, .ref ax])), (aw, .inl (dA, 32, .inl fw)), (as, .inr (1, [.ref ao, .ref au])), (ao, .inl (dA, 32, .inl fs1)), (au, .inl (dL, 33, .inr (.inl gs1))), (an, .inr (2, [.ref anc])), (anc, .inl (dL, 1089, .inr (.inl gn))), (ax, .inr (2, [.ref axc])), (axc, .inl (dL, 1089, .inr (.inl gx)))] := hD.sub [0, 1, 2, 3, 4, 7, 8, 5, 6] (by decide) rfl
    have e1 : r1 = tc_ans w n lim := by
      rw [hr1, hI n (min 1 n) (Nat.min_le_right _ _) (Or.inl (by omega)), Nat.min_eq_left (by omega)]
      exact (if_pos c1).symm
    have hP9 := hP.sub (ws' := [(h0, .inr (0, [.ref aw, .int (nI n), .int (nI lim), .ref as, .ref an, .ref ax])), (aw, .inl (dA, 32, .inl fw)), (as, .inr (1, [.ref ao, .ref au])), (ao, .inl (dA, 32, .inl fs1)), (au, .inl (dL, 33, .inr (.inl gs1))), (an, .inr (2, [.ref anc])), (anc, .inl (dL, 1089, .inr (.inl gn))), (ax, .inr (2, [.ref axc])), (axc, .inl (dL, 1089, .inr (.inl gx)))]) [0, 1, 2, 3, 4, 5, 6, 7, 8] rfl
    have hD9 := hD.sub (ws' := [(h0, .inr (0, [.ref aw, .int (nI n), .int (nI lim), .ref as, .ref an, .ref ax])), (aw, .inl (dA, 32, .inl fw)), (as, .inr (1, [.ref ao, .ref au])), (ao, .inl (dA, 32, .inl fs1)), (au, .inl (dL, 33, .inr (.inl gs1))), (an, .inr (2, [.ref anc])), (anc, .inl (dL, 1089, .inr (.inl gn))), (ax, .inr (2, [.ref axc])), (axc, .inl (dL, 1089, .inr (.inl gx)))]) [0, 1, 2, 3, 4, 5, 6, 7, 8] (by decide) rfl
    exact W.lret (v := r1) hx hb hr (fun t ht hW => ⟨⟨_, (), rfl, e1, ⟨fs1, gs1, an, anc, ax, axc, gn, gx, hgs 0 (Nat.zero_le _), tc_end hP9 hK hD9 ht hW⟩⟩, hS.F ht⟩) hS.2.2 dX0_least_108
  ·
    refine lv_ldc2 (v := (-1)) hx hb hown (hts _ q75) dX0_least_13 ?_
    have hP9 := hP.sub (ws' := [(h0, .inr (0, [.ref aw, .int (nI n), .int (nI lim), .ref as, .ref an, .ref ax])), (aw, .inl (dA, 32, .inl fw)), (as, .inr (1, [.ref ao, .ref au])), (ao, .inl (dA, 32, .inl fs)), (au, .inl (dL, 33, .inr (.inl gs))), (an, .inr (2, [.ref anc])), (anc, .inl (dL, 1089, .inr (.inl gn))), (ax, .inr (2, [.ref axc])), (axc, .inl (dL, 1089, .inr (.inl gx)))]) [0, 1, 2, 3, 4, 5, 6, 7, 8] rfl
    have hD9 := hD.sub (ws' := [(h0, .inr (0, [.ref aw, .int (nI n), .int (nI lim), .ref as, .ref an, .ref ax])), (aw, .inl (dA, 32, .inl fw)), (as, .inr (1, [.ref ao, .ref au])), (ao, .inl (dA, 32, .inl fs)), (au, .inl (dL, 33, .inr (.inl gs))), (an, .inr (2, [.ref anc])), (anc, .inl (dL, 1089, .inr (.inl gn))), (ax, .inr (2, [.ref axc])), (axc, .inl (dL, 1089, .inr (.inl gx)))]) [0, 1, 2, 3, 4, 5, 6, 7, 8] (by decide) rfl
    exact W.lret (v := (-1)) hx hb hr (fun t ht hW => ⟨⟨_, (), rfl, (if_neg (Nat.not_le.mpr c1)).symm, ⟨fs, gs, an, anc, ax, axc, gn, gx, hg, tc_end hP9 hK hD9 ht hW⟩⟩, hS.F ht⟩) hS.2.2 dX0_least_16
end
section
/-! TrimCodesModel.least -/
def tc_rel (xs : Nat → Int64) (X : Nat → Option Nat) : Prop := ∀ p, p < 289 → xs p = tc_oL (X p)
theorem tc_rel_u {xs : Nat → Int64} {X : Nat → Option Nat} {p v : Nat} (h : tc_rel xs X) : tc_rel (vp_updL xs p (lN v)) (tc_upo X p v) := by
  intro q hq
  unfold tc_upo
  by_cases e : q = p
  · rw [if_pos e, e]; exact pk_uLs
  · rw [if_neg e, pk_uLn e]; exact h q hq
theorem tc_more_s {w : Nat → Nat} {n j a dd : Nat} (ha : 0 < a) (hja : j + a ≤ n) : dd * (tc_S w n (n - j) - tc_S w n (n - j - (a - 1))) + tc_a w n (n - 1 - (j + a - 1)) * dd = dd * (tc_S w n (n - j) - tc_S w n (n - j - a)) := by
  have e1 : n - j - (a - 1) = (n - j - a) + 1 := by omega
  have e2 : n - 1 - (j + a - 1) = n - j - a := by omega
  have h1 := tc_S_mono w n (n - j - (a - 1)) (n - j) (by omega)
  have e3 : tc_S w n ((n - j - a) + 1) = tc_S w n (n - j - a) + tc_a w n (n - j - a) := rfl
  rw [e1] at h1
  rw [e1, e2, e3, Nat.mul_comm (tc_a w n (n - j - a)) dd, ← Nat.mul_add]
  rw [e3] at h1
  congr 1
  omega
set_option maxHeartbeats 4000000 in
set_option maxRecDepth 100000 in
theorem ml_in {p : Program} {l : Launch} {e : Env} {R : Room} {s : State} {m : MethodId} {args : Array Value} {below : List Frame} {meth : Method} {c : Code} {mc0 ms0 : Nat} {Q : State → Prop} {D : va_G} {dA dL : ClassId} {A : Nat → Prop} (X0 : tc_X p s m meth c args cX3_least 13 RX3 (some .long) A) (hK : va_K D vwCl (tA dA dL) s) (h0 aw ab an ao n lim : Nat) (fw : Nat → Int32) (w : Nat → Nat) (hn : n ≤ 16) (hw0 : ∀ i, fw i = nI (w i) ∧ w i < 2147483648) (bs xs : Nat → Int64) (k : Nat) (hk : k < n) (e0 : Nat → Nat) (he : ∀ i, i < k → e0 i < n)
    (kk : ∀ (t : Nat) (os : Nat → Int32) (H : Heap) (locs : List Loc) (ls : Array Slot), tc_ii k (fun v => w v < w k) e0 t os → (t = 0 ∨ w (e0 (t - 1)) ≥ w k) → tc_w s D A [(h0, .inr (3, [.ref aw, .int (nI n), .int (nI lim), .ref ab, .ref an, .ref ao])), (aw, .inl (dA, 32, .inl fw)), (ab, .inl (dL, 289, .inr (.inl bs))), (an, .inl (dL, 289, .inr (.inl xs))), (ao, .inl (dA, 32, .inl os))] H locs → lv_has ls 13 [(0, .ref h0), (1, .int (nI k)), (2, .int (nI t))] → W p l e R s m args below meth c H locs mc0 ms0 Q (F0 m 76 ls []))
    : ∀ (t : Nat) (os : Nat → Int32) (H : Heap) (locs : List Loc) (ls : Array Slot), tc_ii k (fun v => w v < w k) e0 t os → tc_w s D A [(h0, .inr (3, [.ref aw, .int (nI n), .int (nI lim), .ref ab, .ref an, .ref ao])), (aw, .inl (dA, 32, .inl fw)), (ab, .inl (dL, 289, .inr (.inl bs))), (an, .inl (dL, 289, .inr (.inl xs))), (ao, .inl (dA, 32, .inl os))] H locs → lv_has ls 13 [(0, .ref h0), (1, .int (nI k)), (2, .int (nI t))] → W p l e R s m args below meth c H locs mc0 ms0 Q (F0 m 29 ls []) := by
  obtain ⟨hx, hb, hr, hml, hown, hts, hlocks, hA⟩ := id X0
  intro t
  induction t with
  | zero =>
    intro os H locs ls hI hw9 hl
    obtain ⟨hP, hD, hS⟩ := hw9
    refine lv_iload_n hx hb dX3_least_29 rfl (lv_at hl 2 rfl) ?_
    refine tc_if_le hx hb 76 dX3_least_30 (by decide) (by omega) (fun _ => ?_) (fun c9 => absurd c9 (by omega))
    exact kk 0 os H locs ls hI (Or.inl rfl) ⟨hP, hD, hS⟩ hl
  | succ t ih =>
    intro os H locs ls hI hw9 hl
    obtain ⟨hP, hD, hS⟩ := hw9
    have hk1 := hI.1
    have he1 := he t (by omega)
    have hw1 := (hw0 k).2
    have hw2 := (hw0 (e0 t)).2
    refine lv_iload_n hx hb dX3_least_29 rfl (lv_at hl 2 rfl) ?_
    refine tc_if_le hx hb 76 dX3_least_30 (by decide) (by omega) (fun c9 => absurd c9 (by omega)) (fun _ => ?_)
    refine lv_aload_n hx hb dX3_least_33 rfl (lv_at hl 0 rfl) ?_
    refine va_get (D := D) (ci := 3) (v := .ref aw) (C := RX3) (T := TX3) (N := 6) hx hb hts in_X3 hown hK hP 0 rfl rfl 0 (by decide) (hts _ q117) (fun _ h9 => h9) rfl dX3_least_34 ?_
    refine lv_aload_n hx hb dX3_least_37 rfl (lv_at hl 0 rfl) ?_
    refine va_get (D := D) (ci := 3) (v := .ref ao) (C := RX3) (T := TX3) (N := 6) hx hb hts in_X3 hown hK hP 0 rfl rfl 5 (by decide) (hts _ q122) (fun _ h9 => h9) rfl dX3_least_38 ?_
    refine lv_iload_n hx hb dX3_least_41 rfl (lv_at hl 2 rfl) ?_
    refine lv_iconst (v := nI 1) hx hb dX3_least_42 (by decide) ?_
    refine tc_isub hx hb (by omega) dX3_least_43 ?_
    refine tc_toi ((nI t)) (congrArg nI (by omega)) ?_
    refine tc_iald hx hb hK hP 4 0 rfl rfl (nI (e0 t)) (by omega) (by decide) (hI.2.1 t (by omega)) dX3_least_44 ?_
    refine tc_iald hx hb hK hP 1 0 rfl rfl (nI (w (e0 t))) (by omega) (by decide) (hw0 _).1 dX3_least_45 ?_
    refine lv_aload_n hx hb dX3_least_46 rfl (lv_at hl 0 rfl) ?_
    refine va_get (D := D) (ci := 3) (v := .ref aw) (C := RX3) (T := TX3) (N := 6) hx hb hts in_X3 hown hK hP 0 rfl rfl 0 (by decide) (hts _ q117) (fun _ h9 => h9) rfl dX3_least_47 ?_
    refine lv_iload_n hx hb dX3_least_50 rfl (lv_at hl 1 rfl) ?_
    refine tc_iald hx hb hK hP 1 0 rfl rfl (nI (w k)) (by omega) (by decide) (hw0 k).1 dX3_least_51 ?_
    refine tc_icmp_ge hx hb 76 dX3_least_52 (by decide) (by omega) (by omega) (fun c1 => ?_) (fun c1 => ?_)
    ·
      exact kk (t + 1) os H locs ls hI (Or.inr c1) ⟨hP, hD, hS⟩ hl
    ·
      refine lv_aload_n hx hb dX3_least_55 rfl (lv_at hl 0 rfl) ?_
      refine va_get (D := D) (ci := 3) (v := .ref ao) (C := RX3) (T := TX3) (N := 6) hx hb hts in_X3 hown hK hP 0 rfl rfl 5 (by decide) (hts _ q122) (fun _ h9 => h9) rfl dX3_least_56 ?_
      refine lv_iload_n hx hb dX3_least_59 rfl (lv_at hl 2 rfl) ?_
      refine lv_aload_n hx hb dX3_least_60 rfl (lv_at hl 0 rfl) ?_
      refine va_get (D := D) (ci := 3) (v := .ref ao) (C := RX3) (T := TX3) (N := 6) hx hb hts in_X3 hown hK hP 0 rfl rfl 5 (by decide) (hts _ q122) (fun _ h9 => h9) rfl dX3_least_61 ?_
      refine lv_iload_n hx hb dX3_least_64 rfl (lv_at hl 2 rfl) ?_
      refine lv_iconst (v := nI 1) hx hb dX3_least_65 (by decide) ?_
      refine tc_isub hx hb (by omega) dX3_least_66 ?_
      refine tc_toi ((nI t)) (congrArg nI (by omega)) ?_
      refine tc_iald hx hb hK hP 4 0 rfl rfl (nI (e0 t)) (by omega) (by decide) (hI.2.1 t (by omega)) dX3_least_67 ?_
      refine tc_iast hx hb hK hP hD hS 4 0 rfl rfl (by omega) (by decide) dX3_least_68 (fun H locs hP hD hS => ?_)
      have hP : va_P D vwCl [(h0, .inr (3, [.ref aw, .int (nI n), .int (nI lim), .ref ab, .ref an, .ref ao])), (aw, .inl (dA, 32, .inl fw)), (ab, .inl (dL, 289, .inr (.inl bs))), (an, .inl (dL, 289, .inr (.inl xs))), (ao, .inl (dA, 32, .inl (upd os (t + 1) (nI (e0 t)))))] H := hP
      have hD : va_D A [(h0, .inr (3, [.ref aw, .int (nI n), .int (nI lim), .ref ab, .ref an, .ref ao])), (aw, .inl (dA, 32, .inl fw)), (ab, .inl (dL, 289, .inr (.inl bs))), (an, .inl (dL, 289, .inr (.inl xs))), (ao, .inl (dA, 32, .inl (upd os (t + 1) (nI (e0 t)))))] := hD
      refine lv_iload_n hx hb dX3_least_69 rfl (lv_at hl 2 rfl) ?_
      refine lv_iconst (v := nI 1) hx hb dX3_least_70 (by decide) ?_
      refine tc_isub hx hb (by omega) dX3_least_71 ?_
      refine tc_toi ((nI t)) (congrArg nI (by omega)) ?_
      refine lv_istore_n (lv' := [(2, .int (nI t)), (0, .ref h0), (1, .int (nI k))]) hx hb dX3_least_72 rfl hl (by decide) rfl (fun ls hl => ?_)
      refine lv_goto (tgt := 29) hx hb dX3_least_73 (by decide) ?_
      exact ih _ H locs ls (tc_ii_s hI c1) ⟨hP, hD, hS⟩ (lv_sub hl [1, 2, 0] rfl)
set_option maxHeartbeats 4000000 in
set_option maxRecDepth 100000 in
theorem ml_out {p : Program} {l : Launch} {e : Env} {R : Room} {s : State} {m : MethodId} {args : Array Value} {below : List Frame} {meth : Method} {c : Code} {mc0 ms0 : Nat} {Q : State → Prop} {D : va_G} {dA dL : ClassId} {A : Nat → Prop} (X0 : tc_X p s m meth c args cX3_least 13 RX3 (some .long) A) (hK : va_K D vwCl (tA dA dL) s) (h0 aw ab an ao n lim : Nat) (fw : Nat → Int32) (w : Nat → Nat) (hn : n ≤ 16) (hw0 : ∀ i, fw i = nI (w i) ∧ w i < 2147483648) (bs xs : Nat → Int64)
    (kk : ∀ (os : Nat → Int32) (H : Heap) (locs : List Loc) (ls : Array Slot), (∃ e0 : Nat → Nat, (∀ i, i < n → os i = nI (e0 i)) ∧ (∀ i, i < n → e0 i < n) ∧ tc_so (· ≥ ·) (fun i => w (e0 i)) w n) → tc_w s D A [(h0, .inr (3, [.ref aw, .int (nI n), .int (nI lim), .ref ab, .ref an, .ref ao])), (aw, .inl (dA, 32, .inl fw)), (ab, .inl (dL, 289, .inr (.inl bs))), (an, .inl (dL, 289, .inr (.inl xs))), (ao, .inl (dA, 32, .inl os))] H locs → lv_has ls 13 [(0, .ref h0), (1, .int (nI n))] → W p l e R s m args below meth c H locs mc0 ms0 Q (F0 m 89 ls []))
    : ∀ (d k : Nat) (os : Nat → Int32) (H : Heap) (locs : List Loc) (ls : Array Slot), k + d = n → (∃ e0 : Nat → Nat, (∀ i, i < k → os i = nI (e0 i)) ∧ (∀ i, i < k → e0 i < n) ∧ tc_so (· ≥ ·) (fun i => w (e0 i)) w k) → tc_w s D A [(h0, .inr (3, [.ref aw, .int (nI n), .int (nI lim), .ref ab, .ref an, .ref ao])), (aw, .inl (dA, 32, .inl fw)), (ab, .inl (dL, 289, .inr (.inl bs))), (an, .inl (dL, 289, .inr (.inl xs))), (ao, .inl (dA, 32, .inl os))] H locs → lv_has ls 13 [(0, .ref h0), (1, .int (nI k))] → W p l e R s m args below meth c H locs mc0 ms0 Q (F0 m 19 ls []) := by
  obtain ⟨hx, hb, hr, hml, hown, hts, hlocks, hA⟩ := id X0
  intro d
  induction d with
  | zero =>
    intro k os H locs ls hd hI hw9 hl
    obtain ⟨hP, hD, hS⟩ := hw9
    have hd : k = n := by omega
    subst hd
    refine lv_iload_n hx hb dX3_least_19 rfl (lv_at hl 1 rfl) ?_
    refine lv_aload_n hx hb dX3_least_20 rfl (lv_at hl 0 rfl) ?_
    refine va_get (D := D) (ci := 3) (v := .int (nI k)) (C := RX3) (T := TX3) (N := 6) hx hb hts in_X3 hown hK hP 0 rfl rfl 1 (by decide) (hts _ q118) (fun _ h9 => h9) rfl dX3_least_21 ?_
    refine tc_icmp_ge hx hb 89 dX3_least_24 (by decide) (by omega) (by omega) (fun _ => ?_) (fun c9 => absurd c9 (by omega))
    exact kk os H locs ls hI ⟨hP, hD, hS⟩ hl
  | succ d ih =>
    intro k os H locs ls hd hI hw9 hl
    obtain ⟨hP, hD, hS⟩ := hw9
    obtain ⟨e0, he1, he2, he3⟩ := hI
    refine lv_iload_n hx hb dX3_least_19 rfl (lv_at hl 1 rfl) ?_
    refine lv_aload_n hx hb dX3_least_20 rfl (lv_at hl 0 rfl) ?_
    refine va_get (D := D) (ci := 3) (v := .int (nI n)) (C := RX3) (T := TX3) (N := 6) hx hb hts in_X3 hown hK hP 0 rfl rfl 1 (by decide) (hts _ q118) (fun _ h9 => h9) rfl dX3_least_21 ?_
    refine tc_icmp_ge hx hb 89 dX3_least_24 (by decide) (by omega) (by omega) (fun c9 => absurd c9 (by omega)) (fun _ => ?_)
    refine lv_iload_n hx hb dX3_least_27 rfl (lv_at hl 1 rfl) ?_
    refine lv_istore_n (lv' := [(2, .int (nI k)), (0, .ref h0), (1, .int (nI k))]) hx hb dX3_least_28 rfl hl (by decide) rfl (fun ls hl => ?_)
    refine ml_in X0 hK h0 aw ab an ao n lim fw w hn hw0 bs xs k (by omega) e0 he2 (fun t os H locs ls hI ht hw9 hl => ?_) k os H locs ls (tc_ii_0 he1) ⟨hP, hD, hS⟩ (lv_sub hl [1, 2, 0] rfl)
    obtain ⟨hP, hD, hS⟩ := hw9
    have ht1 := hI.1
    refine lv_aload_n hx hb dX3_least_76 rfl (lv_at hl 0 rfl) ?_
    refine va_get (D := D) (ci := 3) (v := .ref ao) (C := RX3) (T := TX3) (N := 6) hx hb hts in_X3 hown hK hP 0 rfl rfl 5 (by decide) (hts _ q122) (fun _ h9 => h9) rfl dX3_least_77 ?_
    refine lv_iload_n hx hb dX3_least_80 rfl (lv_at hl 2 rfl) ?_
    refine lv_iload_n hx hb dX3_least_81 rfl (lv_at hl 1 rfl) ?_
    refine tc_iast hx hb hK hP hD hS 4 0 rfl rfl (by omega) (by decide) dX3_least_82 (fun H locs hP hD hS => ?_)
    have hP : va_P D vwCl [(h0, .inr (3, [.ref aw, .int (nI n), .int (nI lim), .ref ab, .ref an, .ref ao])), (aw, .inl (dA, 32, .inl fw)), (ab, .inl (dL, 289, .inr (.inl bs))), (an, .inl (dL, 289, .inr (.inl xs))), (ao, .inl (dA, 32, .inl (upd os t (nI k))))] H := hP
    have hD : va_D A [(h0, .inr (3, [.ref aw, .int (nI n), .int (nI lim), .ref ab, .ref an, .ref ao])), (aw, .inl (dA, 32, .inl fw)), (ab, .inl (dL, 289, .inr (.inl bs))), (an, .inl (dL, 289, .inr (.inl xs))), (ao, .inl (dA, 32, .inl (upd os t (nI k))))] := hD
    refine lv_iinc (v := (nI (k + 1))) (lv' := [(1, .int (nI (k + 1))), (0, .ref h0), (2, .int (nI t))]) hx hb dX3_least_83 hl (k := 1) rfl (nI_1 _) (by decide) rfl (fun ls hl => ?_)
    refine lv_goto (tgt := 19) hx hb dX3_least_86 (by decide) ?_
    refine ih (k + 1) _ H locs ls (by omega) ⟨tc_e1 e0 t k, tc_ii_out hI, tc_e1_all (P := fun v => v < n) he2 (by omega) ht1, ?_⟩ ⟨hP, hD, hS⟩ (lv_sub hl [1, 0] rfl)
    exact tc_ii_so (r := (· ≥ ·)) (val := w) (fun a b c h1 h2 => Nat.le_trans h2 h1) he3 ht1 rfl (fun i h1 h2 => Nat.le_of_lt (hI.2.2 i h1 h2).2) ht
set_option maxHeartbeats 4000000 in
set_option maxRecDepth 100000 in
theorem ml_f2 {p : Program} {l : Launch} {e : Env} {R : Room} {s : State} {m : MethodId} {args : Array Value} {below : List Frame} {meth : Method} {c : Code} {mc0 ms0 : Nat} {Q : State → Prop} {D : va_G} {dA dL : ClassId} {A : Nat → Prop} (X0 : tc_X p s m meth c args cX3_least 13 RX3 (some .long) A) (hK : va_K D vwCl (tA dA dL) s) (h0 aw ab an ao n lim : Nat) (fw os : Nat → Int32) (xs : Nat → Int64)
    (kk : ∀ (bs : Nat → Int64) (H : Heap) (locs : List Loc) (ls : Array Slot), (∀ q, q < 289 → bs q = -1) → tc_w s D A [(h0, .inr (3, [.ref aw, .int (nI n), .int (nI lim), .ref ab, .ref an, .ref ao])), (aw, .inl (dA, 32, .inl fw)), (ab, .inl (dL, 289, .inr (.inl bs))), (an, .inl (dL, 289, .inr (.inl xs))), (ao, .inl (dA, 32, .inl os))] H locs → lv_has ls 13 [(0, .ref h0), (1, .int (nI 289))] → W p l e R s m args below meth c H locs mc0 ms0 Q (F0 m 113 ls []))
    : ∀ (d i : Nat) (bs : Nat → Int64) (H : Heap) (locs : List Loc) (ls : Array Slot), i + d = 289 → (∀ q, q < i → bs q = -1) → tc_w s D A [(h0, .inr (3, [.ref aw, .int (nI n), .int (nI lim), .ref ab, .ref an, .ref ao])), (aw, .inl (dA, 32, .inl fw)), (ab, .inl (dL, 289, .inr (.inl bs))), (an, .inl (dL, 289, .inr (.inl xs))), (ao, .inl (dA, 32, .inl os))] H locs → lv_has ls 13 [(0, .ref h0), (1, .int (nI i))] → W p l e R s m args below meth c H locs mc0 ms0 Q (F0 m 91 ls []) := by
  obtain ⟨hx, hb, hr, hml, hown, hts, hlocks, hA⟩ := id X0
  intro d
  induction d with
  | zero =>
    intro i bs H locs ls hd hI hw9 hl
    obtain ⟨hP, hD, hS⟩ := hw9
    have hd : i = 289 := by omega
    subst hd
    refine lv_iload_n hx hb dX3_least_91 rfl (lv_at hl 1 rfl) ?_
    refine lv_sipush (v := nI 289) hx hb dX3_least_92 (by decide) ?_
    refine tc_icmp_ge hx hb 113 dX3_least_95 (by decide) (by omega) (by omega) (fun _ => ?_) (fun c9 => absurd c9 (by omega))
    exact kk bs H locs ls hI ⟨hP, hD, hS⟩ hl
  | succ d ih =>
    intro i bs H locs ls hd hI hw9 hl
    obtain ⟨hP, hD, hS⟩ := hw9
    refine lv_iload_n hx hb dX3_least_91 rfl (lv_at hl 1 rfl) ?_
    refine lv_sipush (v := nI 289) hx hb dX3_least_92 (by decide) ?_
    refine tc_icmp_ge hx hb 113 dX3_least_95 (by decide) (by omega) (by omega) (fun c9 => absurd c9 (by omega)) (fun _ => ?_)
    refine lv_aload_n hx hb dX3_least_98 rfl (lv_at hl 0 rfl) ?_
    refine va_get (D := D) (ci := 3) (v := .ref ab) (C := RX3) (T := TX3) (N := 6) hx hb hts in_X3 hown hK hP 0 rfl rfl 3 (by decide) (hts _ q120) (fun _ h9 => h9) rfl dX3_least_99 ?_
    refine lv_iload_n hx hb dX3_least_102 rfl (lv_at hl 1 rfl) ?_
    refine lv_ldc2 (v := (-1)) hx hb hown (hts _ q153) dX3_least_103 ?_
    refine tc_last hx hb hK hP hD hS 2 1 rfl rfl (by omega) (by decide) dX3_least_106 (fun H locs hP hD hS => ?_)
    have hP : va_P D vwCl [(h0, .inr (3, [.ref aw, .int (nI n), .int (nI lim), .ref ab, .ref an, .ref ao])), (aw, .inl (dA, 32, .inl fw)), (ab, .inl (dL, 289, .inr (.inl (vp_updL bs i (-1))))), (an, .inl (dL, 289, .inr (.inl xs))), (ao, .inl (dA, 32, .inl os))] H := hP
    have hD : va_D A [(h0, .inr (3, [.ref aw, .int (nI n), .int (nI lim), .ref ab, .ref an, .ref ao])), (aw, .inl (dA, 32, .inl fw)), (ab, .inl (dL, 289, .inr (.inl (vp_updL bs i (-1))))), (an, .inl (dL, 289, .inr (.inl xs))), (ao, .inl (dA, 32, .inl os))] := hD
    refine lv_iinc (v := (nI (i + 1))) (lv' := [(1, .int (nI (i + 1))), (0, .ref h0)]) hx hb dX3_least_107 hl (k := 1) rfl (nI_1 _) (by decide) rfl (fun ls hl => ?_)
    refine lv_goto (tgt := 91) hx hb dX3_least_110 (by decide) ?_
    refine ih (i + 1) _ H locs ls (by omega) (fun q hq => ?_) ⟨hP, hD, hS⟩ (lv_sub hl [1, 0] rfl)
    by_cases e : q = i
    · subst e; exact pk_uLs
    · rw [pk_uLn e]; exact hI q (by omega)
set_option maxHeartbeats 4000000 in
set_option maxRecDepth 100000 in
theorem ml_f4 {p : Program} {l : Launch} {e : Env} {R : Room} {s : State} {m : MethodId} {args : Array Value} {below : List Frame} {meth : Method} {c : Code} {mc0 ms0 : Nat} {Q : State → Prop} {D : va_G} {dA dL : ClassId} {A : Nat → Prop} (X0 : tc_X p s m meth c args cX3_least 13 RX3 (some .long) A) (hK : va_K D vwCl (tA dA dL) s) (h0 aw ab an ao n lim : Nat) (fw os : Nat → Int32) (bs : Nat → Int64) (ans : Option Nat) (dd : Nat)
    (kk : ∀ (xs : Nat → Int64) (H : Heap) (locs : List Loc) (ls : Array Slot), (∀ q, q < 289 → xs q = -1) → tc_w s D A [(h0, .inr (3, [.ref aw, .int (nI n), .int (nI lim), .ref ab, .ref an, .ref ao])), (aw, .inl (dA, 32, .inl fw)), (ab, .inl (dL, 289, .inr (.inl bs))), (an, .inl (dL, 289, .inr (.inl xs))), (ao, .inl (dA, 32, .inl os))] H locs → lv_has ls 13 [(0, .ref h0), (1, .long (tc_oL ans)), (3, .int (nI dd)), (4, .int (nI 289))] → W p l e R s m args below meth c H locs mc0 ms0 Q (F0 m 161 ls []))
    : ∀ (d i : Nat) (xs : Nat → Int64) (H : Heap) (locs : List Loc) (ls : Array Slot), i + d = 289 → (∀ q, q < i → xs q = -1) → tc_w s D A [(h0, .inr (3, [.ref aw, .int (nI n), .int (nI lim), .ref ab, .ref an, .ref ao])), (aw, .inl (dA, 32, .inl fw)), (ab, .inl (dL, 289, .inr (.inl bs))), (an, .inl (dL, 289, .inr (.inl xs))), (ao, .inl (dA, 32, .inl os))] H locs → lv_has ls 13 [(0, .ref h0), (1, .long (tc_oL ans)), (3, .int (nI dd)), (4, .int (nI i))] → W p l e R s m args below meth c H locs mc0 ms0 Q (F0 m 137 ls []) := by
  obtain ⟨hx, hb, hr, hml, hown, hts, hlocks, hA⟩ := id X0
  intro d
  induction d with
  | zero =>
    intro i xs H locs ls hd hI hw9 hl
    obtain ⟨hP, hD, hS⟩ := hw9
    have hd : i = 289 := by omega
    subst hd
    refine lv_iload hx hb dX3_least_137 (lv_at hl 3 rfl) ?_
    refine lv_sipush (v := nI 289) hx hb dX3_least_139 (by decide) ?_
    refine tc_icmp_ge hx hb 161 dX3_least_142 (by decide) (by omega) (by omega) (fun _ => ?_) (fun c9 => absurd c9 (by omega))
    exact kk xs H locs ls hI ⟨hP, hD, hS⟩ hl
  | succ d ih =>
    intro i xs H locs ls hd hI hw9 hl
    obtain ⟨hP, hD, hS⟩ := hw9
    refine lv_iload hx hb dX3_least_137 (lv_at hl 3 rfl) ?_
    refine lv_sipush (v := nI 289) hx hb dX3_least_139 (by decide) ?_
    refine tc_icmp_ge hx hb 161 dX3_least_142 (by decide) (by omega) (by omega) (fun c9 => absurd c9 (by omega)) (fun _ => ?_)
    refine lv_aload_n hx hb dX3_least_145 rfl (lv_at hl 0 rfl) ?_
    refine va_get (D := D) (ci := 3) (v := .ref an) (C := RX3) (T := TX3) (N := 6) hx hb hts in_X3 hown hK hP 0 rfl rfl 4 (by decide) (hts _ q121) (fun _ h9 => h9) rfl dX3_least_146 ?_
    refine lv_iload hx hb dX3_least_149 (lv_at hl 3 rfl) ?_
    refine lv_ldc2 (v := (-1)) hx hb hown (hts _ q153) dX3_least_151 ?_
    refine tc_last hx hb hK hP hD hS 3 1 rfl rfl (by omega) (by decide) dX3_least_154 (fun H locs hP hD hS => ?_)
    have hP : va_P D vwCl [(h0, .inr (3, [.ref aw, .int (nI n), .int (nI lim), .ref ab, .ref an, .ref ao])), (aw, .inl (dA, 32, .inl fw)), (ab, .inl (dL, 289, .inr (.inl bs))), (an, .inl (dL, 289, .inr (.inl (vp_updL xs i (-1))))), (ao, .inl (dA, 32, .inl os))] H := hP
    have hD : va_D A [(h0, .inr (3, [.ref aw, .int (nI n), .int (nI lim), .ref ab, .ref an, .ref ao])), (aw, .inl (dA, 32, .inl fw)), (ab, .inl (dL, 289, .inr (.inl bs))), (an, .inl (dL, 289, .inr (.inl (vp_updL xs i (-1))))), (ao, .inl (dA, 32, .inl os))] := hD
    refine lv_iinc (v := (nI (i + 1))) (lv' := [(4, .int (nI (i + 1))), (0, .ref h0), (1, .long (tc_oL ans)), (3, .int (nI dd))]) hx hb dX3_least_155 hl (k := 3) rfl (nI_1 _) (by decide) rfl (fun ls hl => ?_)
    refine lv_goto (tgt := 137) hx hb dX3_least_158 (by decide) ?_
    refine ih (i + 1) _ H locs ls (by omega) (fun q hq => ?_) ⟨hP, hD, hS⟩ (lv_sub hl [1, 2, 3, 0] rfl)
    by_cases e : q = i
    · subst e; exact pk_uLs
    · rw [pk_uLn e]; exact hI q (by omega)
set_option maxHeartbeats 4000000 in
set_option maxRecDepth 100000 in
theorem ml_cp {p : Program} {l : Launch} {e : Env} {R : Room} {s : State} {m : MethodId} {args : Array Value} {below : List Frame} {meth : Method} {c : Code} {mc0 ms0 : Nat} {Q : State → Prop} {D : va_G} {dA dL : ClassId} {A : Nat → Prop} (X0 : tc_X p s m meth c args cX3_least 13 RX3 (some .long) A) (hK : va_K D vwCl (tA dA dL) s) (h0 aw ab an ao n lim : Nat) (fw os : Nat → Int32) (xs : Nat → Int64) (ans : Option Nat) (dd : Nat)
    (kk : ∀ (bs : Nat → Int64) (H : Heap) (locs : List Loc) (ls : Array Slot), (∀ q, q < 289 → bs q = xs q) → tc_w s D A [(h0, .inr (3, [.ref aw, .int (nI n), .int (nI lim), .ref ab, .ref an, .ref ao])), (aw, .inl (dA, 32, .inl fw)), (ab, .inl (dL, 289, .inr (.inl bs))), (an, .inl (dL, 289, .inr (.inl xs))), (ao, .inl (dA, 32, .inl os))] H locs → lv_has ls 13 [(0, .ref h0), (1, .long (tc_oL ans)), (3, .int (nI dd)), (4, .int (nI 289))] → W p l e R s m args below meth c H locs mc0 ms0 Q (F0 m 441 ls []))
    : ∀ (d i : Nat) (bs : Nat → Int64) (H : Heap) (locs : List Loc) (ls : Array Slot), i + d = 289 → (∀ q, q < i → bs q = xs q) → tc_w s D A [(h0, .inr (3, [.ref aw, .int (nI n), .int (nI lim), .ref ab, .ref an, .ref ao])), (aw, .inl (dA, 32, .inl fw)), (ab, .inl (dL, 289, .inr (.inl bs))), (an, .inl (dL, 289, .inr (.inl xs))), (ao, .inl (dA, 32, .inl os))] H locs → lv_has ls 13 [(0, .ref h0), (1, .long (tc_oL ans)), (3, .int (nI dd)), (4, .int (nI i))] → W p l e R s m args below meth c H locs mc0 ms0 Q (F0 m 413 ls []) := by
  obtain ⟨hx, hb, hr, hml, hown, hts, hlocks, hA⟩ := id X0
  intro d
  induction d with
  | zero =>
    intro i bs H locs ls hd hI hw9 hl
    obtain ⟨hP, hD, hS⟩ := hw9
    have hd : i = 289 := by omega
    subst hd
    refine lv_iload hx hb dX3_least_413 (lv_at hl 3 rfl) ?_
    refine lv_sipush (v := nI 289) hx hb dX3_least_415 (by decide) ?_
    refine tc_icmp_ge hx hb 441 dX3_least_418 (by decide) (by omega) (by omega) (fun _ => ?_) (fun c9 => absurd c9 (by omega))
    exact kk bs H locs ls hI ⟨hP, hD, hS⟩ hl
  | succ d ih =>
    intro i bs H locs ls hd hI hw9 hl
    obtain ⟨hP, hD, hS⟩ := hw9
    refine lv_iload hx hb dX3_least_413 (lv_at hl 3 rfl) ?_
    refine lv_sipush (v := nI 289) hx hb dX3_least_415 (by decide) ?_
    refine tc_icmp_ge hx hb 441 dX3_least_418 (by decide) (by omega) (by omega) (fun c9 => absurd c9 (by omega)) (fun _ => ?_)
    refine lv_aload_n hx hb dX3_least_421 rfl (lv_at hl 0 rfl) ?_
    refine va_get (D := D) (ci := 3) (v := .ref ab) (C := RX3) (T := TX3) (N := 6) hx hb hts in_X3 hown hK hP 0 rfl rfl 3 (by decide) (hts _ q120) (fun _ h9 => h9) rfl dX3_least_422 ?_
    refine lv_iload hx hb dX3_least_425 (lv_at hl 3 rfl) ?_
    refine lv_aload_n hx hb dX3_least_427 rfl (lv_at hl 0 rfl) ?_
    refine va_get (D := D) (ci := 3) (v := .ref an) (C := RX3) (T := TX3) (N := 6) hx hb hts in_X3 hown hK hP 0 rfl rfl 4 (by decide) (hts _ q121) (fun _ h9 => h9) rfl dX3_least_428 ?_
    refine lv_iload hx hb dX3_least_431 (lv_at hl 3 rfl) ?_
    refine tc_lald hx hb hK hP 3 1 rfl rfl (xs i) (by omega) (by decide) rfl dX3_least_433 ?_
    refine tc_last hx hb hK hP hD hS 2 1 rfl rfl (by omega) (by decide) dX3_least_434 (fun H locs hP hD hS => ?_)
    have hP : va_P D vwCl [(h0, .inr (3, [.ref aw, .int (nI n), .int (nI lim), .ref ab, .ref an, .ref ao])), (aw, .inl (dA, 32, .inl fw)), (ab, .inl (dL, 289, .inr (.inl (vp_updL bs i (xs i))))), (an, .inl (dL, 289, .inr (.inl xs))), (ao, .inl (dA, 32, .inl os))] H := hP
    have hD : va_D A [(h0, .inr (3, [.ref aw, .int (nI n), .int (nI lim), .ref ab, .ref an, .ref ao])), (aw, .inl (dA, 32, .inl fw)), (ab, .inl (dL, 289, .inr (.inl (vp_updL bs i (xs i))))), (an, .inl (dL, 289, .inr (.inl xs))), (ao, .inl (dA, 32, .inl os))] := hD
    refine lv_iinc (v := (nI (i + 1))) (lv' := [(4, .int (nI (i + 1))), (0, .ref h0), (1, .long (tc_oL ans)), (3, .int (nI dd))]) hx hb dX3_least_435 hl (k := 3) rfl (nI_1 _) (by decide) rfl (fun ls hl => ?_)
    refine lv_goto (tgt := 413) hx hb dX3_least_438 (by decide) ?_
    refine ih (i + 1) _ H locs ls (by omega) (fun q hq => ?_) ⟨hP, hD, hS⟩ (lv_sub hl [1, 2, 3, 0] rfl)
    by_cases e : q = i
    · subst e; exact pk_uLs
    · rw [pk_uLn e]; exact hI q (by omega)
set_option maxHeartbeats 4000000 in
set_option maxRecDepth 100000 in
theorem ml_nx {p : Program} {l : Launch} {e : Env} {R : Room} {s : State} {m : MethodId} {args : Array Value} {below : List Frame} {meth : Method} {c : Code} {mc0 ms0 : Nat} {Q : State → Prop} {D : va_G} {dA dL : ClassId} {A : Nat → Prop} (X0 : tc_X p s m meth c args cX3_least 13 RX3 (some .long) A) (hK : va_K D vwCl (tA dA dL) s) (h0 aw ab an ao n lim : Nat) (fw os : Nat → Int32) (w e0 : Nat → Nat) (hC : tc_C (tc_S w n) n lim) (hw0 : ∀ i, fw i = nI (w i) ∧ w i < 2147483648) (ho : ∀ i, i < n → os i = nI (e0 i) ∧ e0 i < n ∧ w (e0 i) = tc_a w n (n - 1 - i)) (bs : Nat → Int64) (B : Nat → Option Nat) (hB : tc_rel bs B) (dd : Nat) (hd : dd ≤ lim) (j k a cv : Nat) (hj : j ≤ n) (hk : k ≤ 16) (hc : B (17 * j + k) = some cv) (hak : a ≤ k) (hja : j + a < n) (o : Nat) (hop : o = min (2 * (k - a)) (n - j - a))
    (kk : ∀ (xs : Nat → Int64) (X : Nat → Option Nat) (ans : Option Nat) (H : Heap) (locs : List Loc) (ls : Array Slot), tc_rel xs X → tc_I (tc_S w n) n lim dd B X ans j k (a + 1) → tc_w s D A [(h0, .inr (3, [.ref aw, .int (nI n), .int (nI lim), .ref ab, .ref an, .ref ao])), (aw, .inl (dA, 32, .inl fw)), (ab, .inl (dL, 289, .inr (.inl bs))), (an, .inl (dL, 289, .inr (.inl xs))), (ao, .inl (dA, 32, .inl os))] H locs → lv_has ls 13 [(0, .ref h0), (1, .long (tc_oL ans)), (3, .int (nI dd)), (4, .int (nI j)), (5, .int (nI k)), (6, .long (lN cv)), (8, .long (lN (dd * (tc_S w n (n - j) - tc_S w n (n - j - a))))), (10, .int (nI a))] → W p l e R s m args below meth c H locs mc0 ms0 Q (F0 m 392 ls []))
    : ∀ (xs : Nat → Int64) (X : Nat → Option Nat) (ans : Option Nat) (H : Heap) (locs : List Loc) (ls : Array Slot), tc_rel xs X → tc_I (tc_S w n) n lim dd B X ans j k a → tc_w s D A [(h0, .inr (3, [.ref aw, .int (nI n), .int (nI lim), .ref ab, .ref an, .ref ao])), (aw, .inl (dA, 32, .inl fw)), (ab, .inl (dL, 289, .inr (.inl bs))), (an, .inl (dL, 289, .inr (.inl xs))), (ao, .inl (dA, 32, .inl os))] H locs → lv_has ls 13 [(0, .ref h0), (1, .long (tc_oL ans)), (3, .int (nI dd)), (4, .int (nI j)), (5, .int (nI k)), (6, .long (lN cv)), (8, .long (lN (dd * (tc_S w n (n - j) - tc_S w n (n - j - a))))), (10, .int (nI a)), (11, .int (nI o))] → W p l e R s m args below meth c H locs mc0 ms0 Q (F0 m 334 ls []) := by
  obtain ⟨hx, hb, hr, hml, hown, hts, hlocks, hA⟩ := id X0
  have hn2 := hC.1
  have hn := hC.2.1
  have hlim := hC.2.2.1
  have hM : tc_M = 549755813888 := rfl
  intro xs X ans H locs ls hX hI hw9 hl
  obtain ⟨hP, hD, hS⟩ := hw9
  have hc1 := tc_I_c hC hd hI hj hk hc
  have hm1 := tc_more_le (j := j) (a := a) hC hd
  have ho16 : o ≤ 16 := by omega
  refine lv_bipush (v := nI 17) hx hb dX3_least_334 (by decide) ?_
  refine lv_iload hx hb dX3_least_336 (lv_at hl 3 rfl) ?_
  refine lv_iload hx hb dX3_least_338 (lv_at hl 7 rfl) ?_
  refine tc_iadd hx hb dX3_least_340 ?_
  refine tc_imul hx hb dX3_least_341 ?_
  refine lv_iload hx hb dX3_least_342 (lv_at hl 8 rfl) ?_
  refine tc_iadd hx hb dX3_least_344 ?_
  refine lv_istore (lv' := [(12, .int (nI ((17 * (j + a)) + o))), (0, .ref h0), (1, .long (tc_oL ans)), (3, .int (nI dd)), (4, .int (nI j)), (5, .int (nI k)), (6, .long (lN cv)), (8, .long (lN (dd * (tc_S w n (n - j) - tc_S w n (n - j - a))))), (10, .int (nI a)), (11, .int (nI o))]) hx hb dX3_least_345 hl (by decide) rfl (fun ls hl => ?_)
  refine lv_iload hx hb dX3_least_347 (lv_at hl 9 rfl) ?_
  refine tc_if_le hx hb 392 dX3_least_349 (by decide) (by omega) (fun c1 => ?_) (fun c1 => ?_)
  ·
    exact kk xs X ans H locs ls hX (tc_I_no hI (by omega) hja) ⟨hP, hD, hS⟩ (lv_sub hl [1, 2, 3, 4, 5, 6, 7, 8] rfl)
  ·
    cases hX1 : X (17 * (j + a) + o) with
    | none =>
      refine lv_aload_n hx hb dX3_least_352 rfl (lv_at hl 1 rfl) ?_
      refine va_get (D := D) (ci := 3) (v := .ref an) (C := RX3) (T := TX3) (N := 6) hx hb hts in_X3 hown hK hP 0 rfl rfl 4 (by decide) (hts _ q121) (fun _ h9 => h9) rfl dX3_least_353 ?_
      refine lv_iload hx hb dX3_least_356 (lv_at hl 0 rfl) ?_
      refine tc_lald hx hb hK hP 3 1 rfl rfl (-1) (by omega) (by decide) (by rw [hX _ (by omega), hX1]; rfl) dX3_least_358 ?_
      refine lv_lconst (v := lN 0) hx hb dX3_least_359 rfl ?_
      refine tc_lcmp_lt hx hb 380 dX3_least_360 dX3_least_361 (by decide) (fun _ => ?_) (fun c9 => absurd tc_m1 c9)
      refine lv_aload_n hx hb dX3_least_380 rfl (lv_at hl 1 rfl) ?_
      refine va_get (D := D) (ci := 3) (v := .ref an) (C := RX3) (T := TX3) (N := 6) hx hb hts in_X3 hown hK hP 0 rfl rfl 4 (by decide) (hts _ q121) (fun _ h9 => h9) rfl dX3_least_381 ?_
      refine lv_iload hx hb dX3_least_384 (lv_at hl 0 rfl) ?_
      refine lv_lload hx hb dX3_least_386 (lv_at hl 6 rfl) ?_
      refine lv_lload hx hb dX3_least_388 (lv_at hl 7 rfl) ?_
      refine tc_ladd hx hb dX3_least_390 ?_
      refine tc_last hx hb hK hP hD hS 3 1 rfl rfl (by omega) (by decide) dX3_least_391 (fun H locs hP hD hS => ?_)
      have hP : va_P D vwCl [(h0, .inr (3, [.ref aw, .int (nI n), .int (nI lim), .ref ab, .ref an, .ref ao])), (aw, .inl (dA, 32, .inl fw)), (ab, .inl (dL, 289, .inr (.inl bs))), (an, .inl (dL, 289, .inr (.inl (vp_updL xs ((17 * (j + a)) + o) (lN (cv + (dd * (tc_S w n (n - j) - tc_S w n (n - j - a))))))))), (ao, .inl (dA, 32, .inl os))] H := hP
      have hD : va_D A [(h0, .inr (3, [.ref aw, .int (nI n), .int (nI lim), .ref ab, .ref an, .ref ao])), (aw, .inl (dA, 32, .inl fw)), (ab, .inl (dL, 289, .inr (.inl bs))), (an, .inl (dL, 289, .inr (.inl (vp_updL xs ((17 * (j + a)) + o) (lN (cv + (dd * (tc_S w n (n - j) - tc_S w n (n - j - a))))))))), (ao, .inl (dA, 32, .inl os))] := hD
      exact kk _ _ ans H locs ls (tc_rel_u hX) (tc_I_nx1 hC hd hI hk (by omega) hja hc hop (fun v hv => by rw [hX1] at hv; cases hv)) ⟨hP, hD, hS⟩ (lv_sub hl [1, 2, 3, 4, 5, 6, 7, 8] rfl)
    | some v =>
      have hv1 := (hI.2.1 (j + a) o v (by omega) ho16 hX1).2.2.2.2
      have hv2 : (dd + 1) * tc_M ≤ 16 * tc_M := Nat.mul_le_mul_right _ (by omega)
      refine lv_aload_n hx hb dX3_least_352 rfl (lv_at hl 1 rfl) ?_
      refine va_get (D := D) (ci := 3) (v := .ref an) (C := RX3) (T := TX3) (N := 6) hx hb hts in_X3 hown hK hP 0 rfl rfl 4 (by decide) (hts _ q121) (fun _ h9 => h9) rfl dX3_least_353 ?_
      refine lv_iload hx hb dX3_least_356 (lv_at hl 0 rfl) ?_
      refine tc_lald hx hb hK hP 3 1 rfl rfl (lN v) (by omega) (by decide) (by rw [hX _ (by omega), hX1]; rfl) dX3_least_358 ?_
      refine lv_lconst (v := lN 0) hx hb dX3_least_359 rfl ?_
      refine tc_lcmp_lt hx hb 380 dX3_least_360 dX3_least_361 (by decide) (fun c9 => absurd c9 (tc_lN_nneg (by omega))) (fun _ => ?_)
      refine lv_lload hx hb dX3_least_364 (lv_at hl 6 rfl) ?_
      refine lv_lload hx hb dX3_least_366 (lv_at hl 7 rfl) ?_
      refine tc_ladd hx hb dX3_least_368 ?_
      refine lv_aload_n hx hb dX3_least_369 rfl (lv_at hl 1 rfl) ?_
      refine va_get (D := D) (ci := 3) (v := .ref an) (C := RX3) (T := TX3) (N := 6) hx hb hts in_X3 hown hK hP 0 rfl rfl 4 (by decide) (hts _ q121) (fun _ h9 => h9) rfl dX3_least_370 ?_
      refine lv_iload hx hb dX3_least_373 (lv_at hl 0 rfl) ?_
      refine tc_lald hx hb hK hP 3 1 rfl rfl (lN v) (by omega) (by decide) (by rw [hX _ (by omega), hX1]; rfl) dX3_least_375 ?_
      refine tc_lcmp_ge hx hb 392 dX3_least_376 dX3_least_377 (by decide) (fun c2 => ?_) (fun c2 => ?_)
      ·
        exact kk xs X ans H locs ls hX (tc_I_nx2 hC hI hk (by omega) hja hc hop hX1 ((pk_lLE (by omega) (by omega)).mp c2)) ⟨hP, hD, hS⟩ (lv_sub hl [1, 2, 3, 4, 5, 6, 7, 8] rfl)
      ·
        refine lv_aload_n hx hb dX3_least_380 rfl (lv_at hl 1 rfl) ?_
        refine va_get (D := D) (ci := 3) (v := .ref an) (C := RX3) (T := TX3) (N := 6) hx hb hts in_X3 hown hK hP 0 rfl rfl 4 (by decide) (hts _ q121) (fun _ h9 => h9) rfl dX3_least_381 ?_
        refine lv_iload hx hb dX3_least_384 (lv_at hl 0 rfl) ?_
        refine lv_lload hx hb dX3_least_386 (lv_at hl 6 rfl) ?_
        refine lv_lload hx hb dX3_least_388 (lv_at hl 7 rfl) ?_
        refine tc_ladd hx hb dX3_least_390 ?_
        refine tc_last hx hb hK hP hD hS 3 1 rfl rfl (by omega) (by decide) dX3_least_391 (fun H locs hP hD hS => ?_)
        have hP : va_P D vwCl [(h0, .inr (3, [.ref aw, .int (nI n), .int (nI lim), .ref ab, .ref an, .ref ao])), (aw, .inl (dA, 32, .inl fw)), (ab, .inl (dL, 289, .inr (.inl bs))), (an, .inl (dL, 289, .inr (.inl (vp_updL xs ((17 * (j + a)) + o) (lN (cv + (dd * (tc_S w n (n - j) - tc_S w n (n - j - a))))))))), (ao, .inl (dA, 32, .inl os))] H := hP
        have hD : va_D A [(h0, .inr (3, [.ref aw, .int (nI n), .int (nI lim), .ref ab, .ref an, .ref ao])), (aw, .inl (dA, 32, .inl fw)), (ab, .inl (dL, 289, .inr (.inl bs))), (an, .inl (dL, 289, .inr (.inl (vp_updL xs ((17 * (j + a)) + o) (lN (cv + (dd * (tc_S w n (n - j) - tc_S w n (n - j - a))))))))), (ao, .inl (dA, 32, .inl os))] := hD
        exact kk _ _ ans H locs ls (tc_rel_u hX) (tc_I_nx1 hC hd hI hk (by omega) hja hc hop (fun v1 hv => by rw [hX1] at hv; cases hv; exact Nat.not_le.mp fun q => c2 ((pk_lLE (by omega) (by omega)).mpr q))) ⟨hP, hD, hS⟩ (lv_sub hl [1, 2, 3, 4, 5, 6, 7, 8] rfl)
set_option maxHeartbeats 4000000 in
set_option maxRecDepth 100000 in
theorem ml_bd {p : Program} {l : Launch} {e : Env} {R : Room} {s : State} {m : MethodId} {args : Array Value} {below : List Frame} {meth : Method} {c : Code} {mc0 ms0 : Nat} {Q : State → Prop} {D : va_G} {dA dL : ClassId} {A : Nat → Prop} (X0 : tc_X p s m meth c args cX3_least 13 RX3 (some .long) A) (hK : va_K D vwCl (tA dA dL) s) (h0 aw ab an ao n lim : Nat) (fw os : Nat → Int32) (w e0 : Nat → Nat) (hC : tc_C (tc_S w n) n lim) (hw0 : ∀ i, fw i = nI (w i) ∧ w i < 2147483648) (ho : ∀ i, i < n → os i = nI (e0 i) ∧ e0 i < n ∧ w (e0 i) = tc_a w n (n - 1 - i)) (bs : Nat → Int64) (B : Nat → Option Nat) (hB : tc_rel bs B) (dd : Nat) (hd : dd ≤ lim) (j k a cv : Nat) (hj : j ≤ n) (hk : k ≤ 16) (hc : B (17 * j + k) = some cv) (hak : a ≤ k) (hja : j + a ≤ n)
    (kk : ∀ (xs : Nat → Int64) (X : Nat → Option Nat) (ans : Option Nat) (H : Heap) (locs : List Loc) (ls : Array Slot), tc_rel xs X → tc_I (tc_S w n) n lim dd B X ans j k (a + 1) → tc_w s D A [(h0, .inr (3, [.ref aw, .int (nI n), .int (nI lim), .ref ab, .ref an, .ref ao])), (aw, .inl (dA, 32, .inl fw)), (ab, .inl (dL, 289, .inr (.inl bs))), (an, .inl (dL, 289, .inr (.inl xs))), (ao, .inl (dA, 32, .inl os))] H locs → lv_has ls 13 [(0, .ref h0), (1, .long (tc_oL ans)), (3, .int (nI dd)), (4, .int (nI j)), (5, .int (nI k)), (6, .long (lN cv)), (8, .long (lN (dd * (tc_S w n (n - j) - tc_S w n (n - j - a))))), (10, .int (nI a))] → W p l e R s m args below meth c H locs mc0 ms0 Q (F0 m 392 ls []))
    : ∀ (xs : Nat → Int64) (X : Nat → Option Nat) (ans : Option Nat) (H : Heap) (locs : List Loc) (ls : Array Slot), tc_rel xs X → tc_I (tc_S w n) n lim dd B X ans j k a → tc_w s D A [(h0, .inr (3, [.ref aw, .int (nI n), .int (nI lim), .ref ab, .ref an, .ref ao])), (aw, .inl (dA, 32, .inl fw)), (ab, .inl (dL, 289, .inr (.inl bs))), (an, .inl (dL, 289, .inr (.inl xs))), (ao, .inl (dA, 32, .inl os))] H locs → lv_has ls 13 [(0, .ref h0), (1, .long (tc_oL ans)), (3, .int (nI dd)), (4, .int (nI j)), (5, .int (nI k)), (6, .long (lN cv)), (8, .long (lN (dd * (tc_S w n (n - j) - tc_S w n (n - j - a))))), (10, .int (nI a))] → W p l e R s m args below meth c H locs mc0 ms0 Q (F0 m 261 ls []) := by
  obtain ⟨hx, hb, hr, hml, hown, hts, hlocks, hA⟩ := id X0
  have hn2 := hC.1
  have hn := hC.2.1
  have hlim := hC.2.2.1
  have hM : tc_M = 549755813888 := rfl
  intro xs X ans H locs ls hX hI hw9 hl
  obtain ⟨hP, hD, hS⟩ := hw9
  have hc1 := tc_I_c hC hd hI hj hk hc
  have hm1 := tc_more_le (j := j) (a := a) hC hd
  refine lv_iload hx hb dX3_least_261 (lv_at hl 3 rfl) ?_
  refine lv_iload hx hb dX3_least_263 (lv_at hl 7 rfl) ?_
  refine tc_iadd hx hb dX3_least_265 ?_
  refine lv_aload_n hx hb dX3_least_266 rfl (lv_at hl 0 rfl) ?_
  refine va_get (D := D) (ci := 3) (v := .int (nI n)) (C := RX3) (T := TX3) (N := 6) hx hb hts in_X3 hown hK hP 0 rfl rfl 1 (by decide) (hts _ q118) (fun _ h9 => h9) rfl dX3_least_267 ?_
  refine tc_icmp_ne hx hb 298 dX3_least_270 (by decide) (by omega) (by omega) (fun c1 => ?_) (fun c1 => ?_)
  ·
    refine lv_iconst (v := nI 2) hx hb dX3_least_298 (by decide) ?_
    refine lv_iload hx hb dX3_least_299 (lv_at hl 4 rfl) ?_
    refine lv_iload hx hb dX3_least_301 (lv_at hl 7 rfl) ?_
    refine tc_isub hx hb (by omega) dX3_least_303 ?_
    refine tc_imul hx hb dX3_least_304 ?_
    refine lv_istore (lv' := [(11, .int (nI (2 * (k - a)))), (0, .ref h0), (1, .long (tc_oL ans)), (3, .int (nI dd)), (4, .int (nI j)), (5, .int (nI k)), (6, .long (lN cv)), (8, .long (lN (dd * (tc_S w n (n - j) - tc_S w n (n - j - a))))), (10, .int (nI a))]) hx hb dX3_least_305 hl (by decide) rfl (fun ls hl => ?_)
    refine lv_iload hx hb dX3_least_307 (lv_at hl 0 rfl) ?_
    refine lv_aload_n hx hb dX3_least_309 rfl (lv_at hl 1 rfl) ?_
    refine va_get (D := D) (ci := 3) (v := .int (nI n)) (C := RX3) (T := TX3) (N := 6) hx hb hts in_X3 hown hK hP 0 rfl rfl 1 (by decide) (hts _ q118) (fun _ h9 => h9) rfl dX3_least_310 ?_
    refine lv_iload hx hb dX3_least_313 (lv_at hl 4 rfl) ?_
    refine tc_isub hx hb (by omega) dX3_least_315 ?_
    refine lv_iload hx hb dX3_least_316 (lv_at hl 8 rfl) ?_
    refine tc_isub hx hb (by omega) dX3_least_318 ?_
    refine tc_icmp_le hx hb 334 dX3_least_319 (by decide) (by omega) (by omega) (fun c2 => ?_) (fun c2 => ?_)
    ·
      exact ml_nx X0 hK h0 aw ab an ao n lim fw os w e0 hC hw0 ho bs B hB dd hd j k a cv hj hk hc hak (by omega) (2 * (k - a)) (by omega) kk xs X ans H locs ls hX hI ⟨hP, hD, hS⟩ (lv_sub hl [1, 2, 3, 4, 5, 6, 7, 8, 0] rfl)
    ·
      refine lv_aload_n hx hb dX3_least_322 rfl (lv_at hl 1 rfl) ?_
      refine va_get (D := D) (ci := 3) (v := .int (nI n)) (C := RX3) (T := TX3) (N := 6) hx hb hts in_X3 hown hK hP 0 rfl rfl 1 (by decide) (hts _ q118) (fun _ h9 => h9) rfl dX3_least_323 ?_
      refine lv_iload hx hb dX3_least_326 (lv_at hl 4 rfl) ?_
      refine tc_isub hx hb (by omega) dX3_least_328 ?_
      refine lv_iload hx hb dX3_least_329 (lv_at hl 8 rfl) ?_
      refine tc_isub hx hb (by omega) dX3_least_331 ?_
      refine lv_istore (lv' := [(11, .int (nI ((n - j) - a))), (0, .ref h0), (1, .long (tc_oL ans)), (3, .int (nI dd)), (4, .int (nI j)), (5, .int (nI k)), (6, .long (lN cv)), (8, .long (lN (dd * (tc_S w n (n - j) - tc_S w n (n - j - a))))), (10, .int (nI a))]) hx hb dX3_least_332 hl (by decide) rfl (fun ls hl => ?_)
      exact ml_nx X0 hK h0 aw ab an ao n lim fw os w e0 hC hw0 ho bs B hB dd hd j k a cv hj hk hc hak (by omega) (n - j - a) (by omega) kk xs X ans H locs ls hX hI ⟨hP, hD, hS⟩ (lv_sub hl [1, 2, 3, 4, 5, 6, 7, 8, 0] rfl)
  ·
    cases ans with
    | none =>
      refine lv_lload_n hx hb dX3_least_273 rfl (lv_at hl 1 rfl) ?_
      refine tc_tol ((-1)) rfl ?_
      refine lv_lconst (v := lN 0) hx hb dX3_least_274 rfl ?_
      refine tc_lcmp_lt hx hb 289 dX3_least_275 dX3_least_276 (by decide) (fun _ => ?_) (fun c9 => absurd tc_m1 c9)
      refine lv_lload hx hb dX3_least_289 (lv_at hl 5 rfl) ?_
      refine lv_lload hx hb dX3_least_291 (lv_at hl 6 rfl) ?_
      refine tc_ladd hx hb dX3_least_293 ?_
      refine lv_lstore_n (lv' := [(1, .long (lN (cv + (dd * (tc_S w n (n - j) - tc_S w n (n - j - a)))))), (0, .ref h0), (3, .int (nI dd)), (4, .int (nI j)), (5, .int (nI k)), (6, .long (lN cv)), (8, .long (lN (dd * (tc_S w n (n - j) - tc_S w n (n - j - a))))), (10, .int (nI a))]) hx hb dX3_least_294 rfl hl (by decide) rfl (fun ls hl => ?_)
      refine lv_goto (tgt := 392) hx hb dX3_least_295 (by decide) ?_
      exact kk xs X (some _) H locs ls hX (tc_I_ans1 hC hd hI hk hak c1 hc (fun v hv => by cases hv)) ⟨hP, hD, hS⟩ (lv_sub hl [1, 0, 2, 3, 4, 5, 6, 7] rfl)
    | some v =>
      have hv1 := (hI.2.2.1 v rfl).2
      refine lv_lload_n hx hb dX3_least_273 rfl (lv_at hl 1 rfl) ?_
      refine tc_tol ((lN v)) rfl ?_
      refine lv_lconst (v := lN 0) hx hb dX3_least_274 rfl ?_
      refine tc_lcmp_lt hx hb 289 dX3_least_275 dX3_least_276 (by decide) (fun c9 => absurd c9 (tc_lN_nneg (by omega))) (fun _ => ?_)
      refine lv_lload hx hb dX3_least_279 (lv_at hl 5 rfl) ?_
      refine lv_lload hx hb dX3_least_281 (lv_at hl 6 rfl) ?_
      refine tc_ladd hx hb dX3_least_283 ?_
      refine lv_lload_n hx hb dX3_least_284 rfl (lv_at hl 1 rfl) ?_
      refine tc_tol ((lN v)) rfl ?_
      refine tc_lcmp_ge hx hb 392 dX3_least_285 dX3_least_286 (by decide) (fun c2 => ?_) (fun c2 => ?_)
      ·
        exact kk xs X (some v) H locs ls hX (tc_I_ans2 hC hd hI c1 hc rfl ((pk_lLE (by omega) (by omega)).mp c2)) ⟨hP, hD, hS⟩ (lv_sub hl [0, 1, 2, 3, 4, 5, 6, 7] rfl)
      ·
        refine lv_lload hx hb dX3_least_289 (lv_at hl 5 rfl) ?_
        refine lv_lload hx hb dX3_least_291 (lv_at hl 6 rfl) ?_
        refine tc_ladd hx hb dX3_least_293 ?_
        refine lv_lstore_n (lv' := [(1, .long (lN (cv + (dd * (tc_S w n (n - j) - tc_S w n (n - j - a)))))), (0, .ref h0), (3, .int (nI dd)), (4, .int (nI j)), (5, .int (nI k)), (6, .long (lN cv)), (8, .long (lN (dd * (tc_S w n (n - j) - tc_S w n (n - j - a))))), (10, .int (nI a))]) hx hb dX3_least_294 rfl hl (by decide) rfl (fun ls hl => ?_)
        refine lv_goto (tgt := 392) hx hb dX3_least_295 (by decide) ?_
        exact kk xs X (some _) H locs ls hX (tc_I_ans1 hC hd hI hk hak c1 hc (fun v1 hv => by cases hv; exact Nat.not_le.mp fun q => c2 ((pk_lLE (by omega) (by omega)).mpr q))) ⟨hP, hD, hS⟩ (lv_sub hl [1, 0, 2, 3, 4, 5, 6, 7] rfl)
set_option maxHeartbeats 4000000 in
set_option maxRecDepth 100000 in
theorem ml_a {p : Program} {l : Launch} {e : Env} {R : Room} {s : State} {m : MethodId} {args : Array Value} {below : List Frame} {meth : Method} {c : Code} {mc0 ms0 : Nat} {Q : State → Prop} {D : va_G} {dA dL : ClassId} {A : Nat → Prop} (X0 : tc_X p s m meth c args cX3_least 13 RX3 (some .long) A) (hK : va_K D vwCl (tA dA dL) s) (h0 aw ab an ao n lim : Nat) (fw os : Nat → Int32) (w e0 : Nat → Nat) (hC : tc_C (tc_S w n) n lim) (hw0 : ∀ i, fw i = nI (w i) ∧ w i < 2147483648) (ho : ∀ i, i < n → os i = nI (e0 i) ∧ e0 i < n ∧ w (e0 i) = tc_a w n (n - 1 - i)) (bs : Nat → Int64) (B : Nat → Option Nat) (hB : tc_rel bs B) (dd : Nat) (hd : dd ≤ lim) (j k cv : Nat) (hj : j ≤ n) (hk : k ≤ 16) (hc : B (17 * j + k) = some cv)
    (kk : ∀ (xs : Nat → Int64) (X : Nat → Option Nat) (ans : Option Nat) (H : Heap) (locs : List Loc) (ls : Array Slot), tc_rel xs X → tc_I (tc_S w n) n lim dd B X ans j (k + 1) 0 → tc_w s D A [(h0, .inr (3, [.ref aw, .int (nI n), .int (nI lim), .ref ab, .ref an, .ref ao])), (aw, .inl (dA, 32, .inl fw)), (ab, .inl (dL, 289, .inr (.inl bs))), (an, .inl (dL, 289, .inr (.inl xs))), (ao, .inl (dA, 32, .inl os))] H locs → lv_has ls 13 [(0, .ref h0), (1, .long (tc_oL ans)), (3, .int (nI dd)), (4, .int (nI j)), (5, .int (nI k))] → W p l e R s m args below meth c H locs mc0 ms0 Q (F0 m 398 ls []))
    : ∀ (da a : Nat) (xs : Nat → Int64) (X : Nat → Option Nat) (ans : Option Nat) (H : Heap) (locs : List Loc) (ls : Array Slot), a + da = k + 1 → tc_rel xs X → tc_I (tc_S w n) n lim dd B X ans j k a → tc_w s D A [(h0, .inr (3, [.ref aw, .int (nI n), .int (nI lim), .ref ab, .ref an, .ref ao])), (aw, .inl (dA, 32, .inl fw)), (ab, .inl (dL, 289, .inr (.inl bs))), (an, .inl (dL, 289, .inr (.inl xs))), (ao, .inl (dA, 32, .inl os))] H locs → lv_has ls 13 [(0, .ref h0), (1, .long (tc_oL ans)), (3, .int (nI dd)), (4, .int (nI j)), (5, .int (nI k)), (6, .long (lN cv)), (8, .long (lN (dd * (tc_S w n (n - j) - tc_S w n (n - j - (a - 1)))))), (10, .int (nI a))] → W p l e R s m args below meth c H locs mc0 ms0 Q (F0 m 211 ls []) := by
  obtain ⟨hx, hb, hr, hml, hown, hts, hlocks, hA⟩ := id X0
  have hn2 := hC.1
  have hn := hC.2.1
  have hlim := hC.2.2.1
  have hM : tc_M = 549755813888 := rfl
  intro da
  induction da with
  | zero =>
    intro a xs X ans H locs ls hda hX hI hw9 hl
    obtain ⟨hP, hD, hS⟩ := hw9
    refine lv_iload hx hb dX3_least_211 (lv_at hl 7 rfl) ?_
    refine lv_iload hx hb dX3_least_213 (lv_at hl 4 rfl) ?_
    refine tc_icmp_gt hx hb 398 dX3_least_215 (by decide) (by omega) (by omega) (fun _ => ?_) (fun c9 => absurd c9 (by omega))
    exact kk xs X ans H locs ls hX (tc_I_outk hI (Or.inl (by omega))) ⟨hP, hD, hS⟩ (lv_sub hl [0, 1, 2, 3, 4] rfl)
  | succ da ih =>
    intro a xs X ans H locs ls hda hX hI hw9 hl
    obtain ⟨hP, hD, hS⟩ := hw9
    refine lv_iload hx hb dX3_least_211 (lv_at hl 7 rfl) ?_
    refine lv_iload hx hb dX3_least_213 (lv_at hl 4 rfl) ?_
    refine tc_icmp_gt hx hb 398 dX3_least_215 (by decide) (by omega) (by omega) (fun c9 => absurd c9 (by omega)) (fun _ => ?_)
    refine lv_iload hx hb dX3_least_218 (lv_at hl 3 rfl) ?_
    refine lv_iload hx hb dX3_least_220 (lv_at hl 7 rfl) ?_
    refine tc_iadd hx hb dX3_least_222 ?_
    refine lv_aload_n hx hb dX3_least_223 rfl (lv_at hl 0 rfl) ?_
    refine va_get (D := D) (ci := 3) (v := .int (nI n)) (C := RX3) (T := TX3) (N := 6) hx hb hts in_X3 hown hK hP 0 rfl rfl 1 (by decide) (hts _ q118) (fun _ h9 => h9) rfl dX3_least_224 ?_
    refine tc_icmp_gt hx hb 398 dX3_least_227 (by decide) (by omega) (by omega) (fun c1 => ?_) (fun c1 => ?_)
    ·
      exact kk xs X ans H locs ls hX (tc_I_outk hI (Or.inr c1)) ⟨hP, hD, hS⟩ (lv_sub hl [0, 1, 2, 3, 4] rfl)
    ·
      refine lv_iload hx hb dX3_least_230 (lv_at hl 7 rfl) ?_
      refine tc_if_le hx hb 261 dX3_least_232 (by decide) (by omega) (fun c2 => ?_) (fun c2 => ?_)
      ·
        have e1 : dd * (tc_S w n (n - j) - tc_S w n (n - j - (a - 1))) = dd * (tc_S w n (n - j) - tc_S w n (n - j - a)) := by subst c2; rfl
        rw [e1] at hl
        refine ml_bd X0 hK h0 aw ab an ao n lim fw os w e0 hC hw0 ho bs B hB dd hd j k a cv hj hk hc (by omega) c1 (fun xs X ans H locs ls hX hI hw9 hl => ?_) xs X ans H locs ls hX hI ⟨hP, hD, hS⟩ (lv_sub hl [0, 1, 2, 3, 4, 5, 6, 7] rfl)
        obtain ⟨hP, hD, hS⟩ := hw9
        refine lv_iinc (v := (nI (a + 1))) (lv' := [(10, .int (nI (a + 1))), (0, .ref h0), (1, .long (tc_oL ans)), (3, .int (nI dd)), (4, .int (nI j)), (5, .int (nI k)), (6, .long (lN cv)), (8, .long (lN (dd * (tc_S w n (n - j) - tc_S w n (n - j - a)))))]) hx hb dX3_least_392 hl (k := 7) rfl (nI_1 _) (by decide) rfl (fun ls hl => ?_)
        refine lv_goto (tgt := 211) hx hb dX3_least_395 (by decide) ?_
        exact ih (a + 1) xs X ans H locs ls (by omega) hX hI ⟨hP, hD, hS⟩ (lv_sub hl [1, 2, 3, 4, 5, 6, 7, 0] rfl)
      ·
        have ho1 := ho (j + a - 1) (by omega)
        have ha1 := tc_a_lt (n := n) (fun i => (hw0 i).2) (n - 1 - (j + a - 1))
        refine lv_lload hx hb dX3_least_235 (lv_at hl 6 rfl) ?_
        refine lv_aload_n hx hb dX3_least_237 rfl (lv_at hl 0 rfl) ?_
        refine va_get (D := D) (ci := 3) (v := .ref aw) (C := RX3) (T := TX3) (N := 6) hx hb hts in_X3 hown hK hP 0 rfl rfl 0 (by decide) (hts _ q117) (fun _ h9 => h9) rfl dX3_least_238 ?_
        refine lv_aload_n hx hb dX3_least_241 rfl (lv_at hl 0 rfl) ?_
        refine va_get (D := D) (ci := 3) (v := .ref ao) (C := RX3) (T := TX3) (N := 6) hx hb hts in_X3 hown hK hP 0 rfl rfl 5 (by decide) (hts _ q122) (fun _ h9 => h9) rfl dX3_least_242 ?_
        refine lv_iload hx hb dX3_least_245 (lv_at hl 3 rfl) ?_
        refine lv_iload hx hb dX3_least_247 (lv_at hl 7 rfl) ?_
        refine tc_iadd hx hb dX3_least_249 ?_
        refine lv_iconst (v := nI 1) hx hb dX3_least_250 (by decide) ?_
        refine tc_isub hx hb (by omega) dX3_least_251 ?_
        refine tc_iald hx hb hK hP 4 0 rfl rfl (nI (e0 (j + a - 1))) (by omega) (by decide) ho1.1 dX3_least_252 ?_
        refine tc_iald hx hb hK hP 1 0 rfl rfl (nI (tc_a w n (n - 1 - (j + a - 1)))) (by omega) (by decide) (by rw [(hw0 _).1, ho1.2.2]) dX3_least_253 ?_
        refine tc_i2l hx hb (by omega) dX3_least_254 ?_
        refine lv_iload_n hx hb dX3_least_255 rfl (lv_at hl 2 rfl) ?_
        refine tc_i2l hx hb (by omega) dX3_least_256 ?_
        refine tc_lmul hx hb dX3_least_257 ?_
        refine tc_ladd hx hb dX3_least_258 ?_
        refine tc_tol ((lN (dd * (tc_S w n (n - j) - tc_S w n (n - j - a))))) (congrArg lN (tc_more_s c2 c1)) ?_
        refine lv_lstore (lv' := [(8, .long (lN (dd * (tc_S w n (n - j) - tc_S w n (n - j - a))))), (0, .ref h0), (1, .long (tc_oL ans)), (3, .int (nI dd)), (4, .int (nI j)), (5, .int (nI k)), (6, .long (lN cv)), (10, .int (nI a))]) hx hb dX3_least_259 hl (by decide) rfl (fun ls hl => ?_)
        refine ml_bd X0 hK h0 aw ab an ao n lim fw os w e0 hC hw0 ho bs B hB dd hd j k a cv hj hk hc (by omega) c1 (fun xs X ans H locs ls hX hI hw9 hl => ?_) xs X ans H locs ls hX hI ⟨hP, hD, hS⟩ (lv_sub hl [1, 2, 3, 4, 5, 6, 0, 7] rfl)
        obtain ⟨hP, hD, hS⟩ := hw9
        refine lv_iinc (v := (nI (a + 1))) (lv' := [(10, .int (nI (a + 1))), (0, .ref h0), (1, .long (tc_oL ans)), (3, .int (nI dd)), (4, .int (nI j)), (5, .int (nI k)), (6, .long (lN cv)), (8, .long (lN (dd * (tc_S w n (n - j) - tc_S w n (n - j - a)))))]) hx hb dX3_least_392 hl (k := 7) rfl (nI_1 _) (by decide) rfl (fun ls hl => ?_)
        refine lv_goto (tgt := 211) hx hb dX3_least_395 (by decide) ?_
        exact ih (a + 1) xs X ans H locs ls (by omega) hX hI ⟨hP, hD, hS⟩ (lv_sub hl [1, 2, 3, 4, 5, 6, 7, 0] rfl)
set_option maxHeartbeats 4000000 in
set_option maxRecDepth 100000 in
theorem ml_k {p : Program} {l : Launch} {e : Env} {R : Room} {s : State} {m : MethodId} {args : Array Value} {below : List Frame} {meth : Method} {c : Code} {mc0 ms0 : Nat} {Q : State → Prop} {D : va_G} {dA dL : ClassId} {A : Nat → Prop} (X0 : tc_X p s m meth c args cX3_least 13 RX3 (some .long) A) (hK : va_K D vwCl (tA dA dL) s) (h0 aw ab an ao n lim : Nat) (fw os : Nat → Int32) (w e0 : Nat → Nat) (hC : tc_C (tc_S w n) n lim) (hw0 : ∀ i, fw i = nI (w i) ∧ w i < 2147483648) (ho : ∀ i, i < n → os i = nI (e0 i) ∧ e0 i < n ∧ w (e0 i) = tc_a w n (n - 1 - i)) (bs : Nat → Int64) (B : Nat → Option Nat) (hB : tc_rel bs B) (dd : Nat) (hd : dd ≤ lim) (j : Nat) (hj : j ≤ n)
    (kk : ∀ (xs : Nat → Int64) (X : Nat → Option Nat) (ans : Option Nat) (H : Heap) (locs : List Loc) (ls : Array Slot), tc_rel xs X → tc_I (tc_S w n) n lim dd B X ans (j + 1) 0 0 → tc_w s D A [(h0, .inr (3, [.ref aw, .int (nI n), .int (nI lim), .ref ab, .ref an, .ref ao])), (aw, .inl (dA, 32, .inl fw)), (ab, .inl (dL, 289, .inr (.inl bs))), (an, .inl (dL, 289, .inr (.inl xs))), (ao, .inl (dA, 32, .inl os))] H locs → lv_has ls 13 [(0, .ref h0), (1, .long (tc_oL ans)), (3, .int (nI dd)), (4, .int (nI j))] → W p l e R s m args below meth c H locs mc0 ms0 Q (F0 m 404 ls []))
    : ∀ (dk k : Nat) (xs : Nat → Int64) (X : Nat → Option Nat) (ans : Option Nat) (H : Heap) (locs : List Loc) (ls : Array Slot), k + dk = 17 → tc_rel xs X → tc_I (tc_S w n) n lim dd B X ans j k 0 → tc_w s D A [(h0, .inr (3, [.ref aw, .int (nI n), .int (nI lim), .ref ab, .ref an, .ref ao])), (aw, .inl (dA, 32, .inl fw)), (ab, .inl (dL, 289, .inr (.inl bs))), (an, .inl (dL, 289, .inr (.inl xs))), (ao, .inl (dA, 32, .inl os))] H locs → lv_has ls 13 [(0, .ref h0), (1, .long (tc_oL ans)), (3, .int (nI dd)), (4, .int (nI j)), (5, .int (nI k))] → W p l e R s m args below meth c H locs mc0 ms0 Q (F0 m 176 ls []) := by
  obtain ⟨hx, hb, hr, hml, hown, hts, hlocks, hA⟩ := id X0
  have hn2 := hC.1
  have hn := hC.2.1
  have hlim := hC.2.2.1
  have hM : tc_M = 549755813888 := rfl
  intro dk
  induction dk with
  | zero =>
    intro k xs X ans H locs ls hdk hX hI hw9 hl
    obtain ⟨hP, hD, hS⟩ := hw9
    refine lv_iload hx hb dX3_least_176 (lv_at hl 4 rfl) ?_
    refine lv_bipush (v := nI 16) hx hb dX3_least_178 (by decide) ?_
    refine tc_icmp_gt hx hb 404 dX3_least_180 (by decide) (by omega) (by omega) (fun _ => ?_) (fun c9 => absurd c9 (by omega))
    exact kk xs X ans H locs ls hX (tc_I_outj hI (by omega)) ⟨hP, hD, hS⟩ (lv_sub hl [0, 1, 2, 3] rfl)
  | succ dk ih =>
    intro k xs X ans H locs ls hdk hX hI hw9 hl
    obtain ⟨hP, hD, hS⟩ := hw9
    refine lv_iload hx hb dX3_least_176 (lv_at hl 4 rfl) ?_
    refine lv_bipush (v := nI 16) hx hb dX3_least_178 (by decide) ?_
    refine tc_icmp_gt hx hb 404 dX3_least_180 (by decide) (by omega) (by omega) (fun c9 => absurd c9 (by omega)) (fun _ => ?_)
    cases hc : B (17 * j + k) with
    | none =>
      refine lv_aload_n hx hb dX3_least_183 rfl (lv_at hl 0 rfl) ?_
      refine va_get (D := D) (ci := 3) (v := .ref ab) (C := RX3) (T := TX3) (N := 6) hx hb hts in_X3 hown hK hP 0 rfl rfl 3 (by decide) (hts _ q120) (fun _ h9 => h9) rfl dX3_least_184 ?_
      refine lv_bipush (v := nI 17) hx hb dX3_least_187 (by decide) ?_
      refine lv_iload hx hb dX3_least_189 (lv_at hl 3 rfl) ?_
      refine tc_imul hx hb dX3_least_191 ?_
      refine lv_iload hx hb dX3_least_192 (lv_at hl 4 rfl) ?_
      refine tc_iadd hx hb dX3_least_194 ?_
      refine tc_lald hx hb hK hP 2 1 rfl rfl (-1) (by omega) (by decide) (by rw [hB _ (by omega), hc]; rfl) dX3_least_195 ?_
      refine lv_lstore (lv' := [(6, .long (-1)), (0, .ref h0), (1, .long (tc_oL ans)), (3, .int (nI dd)), (4, .int (nI j)), (5, .int (nI k))]) hx hb dX3_least_196 hl (by decide) rfl (fun ls hl => ?_)
      refine lv_lload hx hb dX3_least_198 (lv_at hl 0 rfl) ?_
      refine lv_lconst (v := lN 0) hx hb dX3_least_200 rfl ?_
      refine tc_lcmp_lt hx hb 398 dX3_least_201 dX3_least_202 (by decide) (fun _ => ?_) (fun c9 => absurd tc_m1 c9)
      refine lv_iinc (v := (nI (k + 1))) (lv' := [(5, .int (nI (k + 1))), (6, .long (-1)), (0, .ref h0), (1, .long (tc_oL ans)), (3, .int (nI dd)), (4, .int (nI j))]) hx hb dX3_least_398 hl (k := 5) rfl (nI_1 _) (by decide) rfl (fun ls hl => ?_)
      refine lv_goto (tgt := 176) hx hb dX3_least_401 (by decide) ?_
      exact ih (k + 1) xs X ans H locs ls (by omega) hX (tc_I_none hI hc) ⟨hP, hD, hS⟩ (lv_sub hl [2, 3, 4, 5, 0] rfl)
    | some cv =>
      have hc1 := tc_I_c hC hd hI hj (by omega) hc
      refine lv_aload_n hx hb dX3_least_183 rfl (lv_at hl 0 rfl) ?_
      refine va_get (D := D) (ci := 3) (v := .ref ab) (C := RX3) (T := TX3) (N := 6) hx hb hts in_X3 hown hK hP 0 rfl rfl 3 (by decide) (hts _ q120) (fun _ h9 => h9) rfl dX3_least_184 ?_
      refine lv_bipush (v := nI 17) hx hb dX3_least_187 (by decide) ?_
      refine lv_iload hx hb dX3_least_189 (lv_at hl 3 rfl) ?_
      refine tc_imul hx hb dX3_least_191 ?_
      refine lv_iload hx hb dX3_least_192 (lv_at hl 4 rfl) ?_
      refine tc_iadd hx hb dX3_least_194 ?_
      refine tc_lald hx hb hK hP 2 1 rfl rfl (lN cv) (by omega) (by decide) (by rw [hB _ (by omega), hc]; rfl) dX3_least_195 ?_
      refine lv_lstore (lv' := [(6, .long (lN cv)), (0, .ref h0), (1, .long (tc_oL ans)), (3, .int (nI dd)), (4, .int (nI j)), (5, .int (nI k))]) hx hb dX3_least_196 hl (by decide) rfl (fun ls hl => ?_)
      refine lv_lload hx hb dX3_least_198 (lv_at hl 0 rfl) ?_
      refine lv_lconst (v := lN 0) hx hb dX3_least_200 rfl ?_
      refine tc_lcmp_lt hx hb 398 dX3_least_201 dX3_least_202 (by decide) (fun c9 => absurd c9 (tc_lN_nneg (by omega))) (fun _ => ?_)
      refine lv_lconst (v := lN 0) hx hb dX3_least_205 rfl ?_
      refine lv_lstore (lv' := [(8, .long (lN 0)), (6, .long (lN cv)), (0, .ref h0), (1, .long (tc_oL ans)), (3, .int (nI dd)), (4, .int (nI j)), (5, .int (nI k))]) hx hb dX3_least_206 hl (by decide) rfl (fun ls hl => ?_)
      refine lv_iconst (v := nI 0) hx hb dX3_least_208 (by decide) ?_
      refine lv_istore (lv' := [(10, .int (nI 0)), (8, .long (lN 0)), (6, .long (lN cv)), (0, .ref h0), (1, .long (tc_oL ans)), (3, .int (nI dd)), (4, .int (nI j)), (5, .int (nI k))]) hx hb dX3_least_209 hl (by decide) rfl (fun ls hl => ?_)
      refine ml_a X0 hK h0 aw ab an ao n lim fw os w e0 hC hw0 ho bs B hB dd hd j k cv hj (by omega) hc (fun xs X ans H locs ls hX hI hw9 hl => ?_) (k + 1) 0 xs X ans H locs ls (by omega) hX hI ⟨hP, hD, hS⟩ ?_
      ·
        obtain ⟨hP, hD, hS⟩ := hw9
        refine lv_iinc (v := (nI (k + 1))) (lv' := [(5, .int (nI (k + 1))), (0, .ref h0), (1, .long (tc_oL ans)), (3, .int (nI dd)), (4, .int (nI j))]) hx hb dX3_least_398 hl (k := 4) rfl (nI_1 _) (by decide) rfl (fun ls hl => ?_)
        refine lv_goto (tgt := 176) hx hb dX3_least_401 (by decide) ?_
        exact ih (k + 1) xs X ans H locs ls (by omega) hX hI ⟨hP, hD, hS⟩ (lv_sub hl [1, 2, 3, 4, 0] rfl)
      · have e1 : dd * (tc_S w n (n - j) - tc_S w n (n - j - (0 - 1))) = 0 := by rw [show n - j - (0 - 1) = n - j by omega, Nat.sub_self, Nat.mul_zero]
        rw [e1]
        exact (lv_sub hl [3, 4, 5, 6, 7, 2, 1, 0] rfl)
set_option maxHeartbeats 4000000 in
set_option maxRecDepth 100000 in
theorem ml_j {p : Program} {l : Launch} {e : Env} {R : Room} {s : State} {m : MethodId} {args : Array Value} {below : List Frame} {meth : Method} {c : Code} {mc0 ms0 : Nat} {Q : State → Prop} {D : va_G} {dA dL : ClassId} {A : Nat → Prop} (X0 : tc_X p s m meth c args cX3_least 13 RX3 (some .long) A) (hK : va_K D vwCl (tA dA dL) s) (h0 aw ab an ao n lim : Nat) (fw os : Nat → Int32) (w e0 : Nat → Nat) (hC : tc_C (tc_S w n) n lim) (hw0 : ∀ i, fw i = nI (w i) ∧ w i < 2147483648) (ho : ∀ i, i < n → os i = nI (e0 i) ∧ e0 i < n ∧ w (e0 i) = tc_a w n (n - 1 - i)) (bs : Nat → Int64) (B : Nat → Option Nat) (hB : tc_rel bs B) (dd : Nat) (hd : dd ≤ lim)
    (kk : ∀ (xs : Nat → Int64) (X : Nat → Option Nat) (ans : Option Nat) (H : Heap) (locs : List Loc) (ls : Array Slot), tc_rel xs X → tc_J (tc_S w n) n lim (dd + 1) X ans → tc_w s D A [(h0, .inr (3, [.ref aw, .int (nI n), .int (nI lim), .ref ab, .ref an, .ref ao])), (aw, .inl (dA, 32, .inl fw)), (ab, .inl (dL, 289, .inr (.inl bs))), (an, .inl (dL, 289, .inr (.inl xs))), (ao, .inl (dA, 32, .inl os))] H locs → lv_has ls 13 [(0, .ref h0), (1, .long (tc_oL ans)), (3, .int (nI dd))] → W p l e R s m args below meth c H locs mc0 ms0 Q (F0 m 410 ls []))
    : ∀ (dj j : Nat) (xs : Nat → Int64) (X : Nat → Option Nat) (ans : Option Nat) (H : Heap) (locs : List Loc) (ls : Array Slot), j + dj = n + 1 → tc_rel xs X → tc_I (tc_S w n) n lim dd B X ans j 0 0 → tc_w s D A [(h0, .inr (3, [.ref aw, .int (nI n), .int (nI lim), .ref ab, .ref an, .ref ao])), (aw, .inl (dA, 32, .inl fw)), (ab, .inl (dL, 289, .inr (.inl bs))), (an, .inl (dL, 289, .inr (.inl xs))), (ao, .inl (dA, 32, .inl os))] H locs → lv_has ls 13 [(0, .ref h0), (1, .long (tc_oL ans)), (3, .int (nI dd)), (4, .int (nI j))] → W p l e R s m args below meth c H locs mc0 ms0 Q (F0 m 164 ls []) := by
  obtain ⟨hx, hb, hr, hml, hown, hts, hlocks, hA⟩ := id X0
  have hn2 := hC.1
  have hn := hC.2.1
  have hlim := hC.2.2.1
  have hM : tc_M = 549755813888 := rfl
  intro dj
  induction dj with
  | zero =>
    intro j xs X ans H locs ls hdj hX hI hw9 hl
    obtain ⟨hP, hD, hS⟩ := hw9
    refine lv_iload hx hb dX3_least_164 (lv_at hl 3 rfl) ?_
    refine lv_aload_n hx hb dX3_least_166 rfl (lv_at hl 0 rfl) ?_
    refine va_get (D := D) (ci := 3) (v := .int (nI n)) (C := RX3) (T := TX3) (N := 6) hx hb hts in_X3 hown hK hP 0 rfl rfl 1 (by decide) (hts _ q118) (fun _ h9 => h9) rfl dX3_least_167 ?_
    refine tc_icmp_gt hx hb 410 dX3_least_170 (by decide) (by omega) (by omega) (fun _ => ?_) (fun c9 => absurd c9 (by omega))
    exact kk xs X ans H locs ls hX (tc_I_end hI (by omega)) ⟨hP, hD, hS⟩ (lv_sub hl [0, 1, 2] rfl)
  | succ dj ih =>
    intro j xs X ans H locs ls hdj hX hI hw9 hl
    obtain ⟨hP, hD, hS⟩ := hw9
    refine lv_iload hx hb dX3_least_164 (lv_at hl 3 rfl) ?_
    refine lv_aload_n hx hb dX3_least_166 rfl (lv_at hl 0 rfl) ?_
    refine va_get (D := D) (ci := 3) (v := .int (nI n)) (C := RX3) (T := TX3) (N := 6) hx hb hts in_X3 hown hK hP 0 rfl rfl 1 (by decide) (hts _ q118) (fun _ h9 => h9) rfl dX3_least_167 ?_
    refine tc_icmp_gt hx hb 410 dX3_least_170 (by decide) (by omega) (by omega) (fun c9 => absurd c9 (by omega)) (fun _ => ?_)
    refine lv_iconst (v := nI 0) hx hb dX3_least_173 (by decide) ?_
    refine lv_istore (lv' := [(5, .int (nI 0)), (0, .ref h0), (1, .long (tc_oL ans)), (3, .int (nI dd)), (4, .int (nI j))]) hx hb dX3_least_174 hl (by decide) rfl (fun ls hl => ?_)
    refine ml_k X0 hK h0 aw ab an ao n lim fw os w e0 hC hw0 ho bs B hB dd hd j (by omega) (fun xs X ans H locs ls hX hI hw9 hl => ?_) 17 0 xs X ans H locs ls (by omega) hX hI ⟨hP, hD, hS⟩ (lv_sub hl [1, 2, 3, 4, 0] rfl)
    obtain ⟨hP, hD, hS⟩ := hw9
    refine lv_iinc (v := (nI (j + 1))) (lv' := [(4, .int (nI (j + 1))), (0, .ref h0), (1, .long (tc_oL ans)), (3, .int (nI dd))]) hx hb dX3_least_404 hl (k := 3) rfl (nI_1 _) (by decide) rfl (fun ls hl => ?_)
    refine lv_goto (tgt := 164) hx hb dX3_least_407 (by decide) ?_
    exact ih (j + 1) xs X ans H locs ls (by omega) hX hI ⟨hP, hD, hS⟩ (lv_sub hl [1, 2, 3, 0] rfl)
set_option maxHeartbeats 4000000 in
set_option maxRecDepth 100000 in
theorem ml_d {p : Program} {l : Launch} {e : Env} {R : Room} {s : State} {m : MethodId} {args : Array Value} {below : List Frame} {meth : Method} {c : Code} {mc0 ms0 : Nat} {Q : State → Prop} {D : va_G} {dA dL : ClassId} {A : Nat → Prop} (X0 : tc_X p s m meth c args cX3_least 13 RX3 (some .long) A) (hK : va_K D vwCl (tA dA dL) s) (h0 aw ab an ao n lim : Nat) (fw os : Nat → Int32) (w e0 : Nat → Nat) (hC : tc_C (tc_S w n) n lim) (hw0 : ∀ i, fw i = nI (w i) ∧ w i < 2147483648) (ho : ∀ i, i < n → os i = nI (e0 i) ∧ e0 i < n ∧ w (e0 i) = tc_a w n (n - 1 - i))
    (kk : ∀ (bs xs : Nat → Int64) (H : Heap) (locs : List Loc) (ls : Array Slot), tc_w s D A [(h0, .inr (3, [.ref aw, .int (nI n), .int (nI lim), .ref ab, .ref an, .ref ao])), (aw, .inl (dA, 32, .inl fw)), (ab, .inl (dL, 289, .inr (.inl bs))), (an, .inl (dL, 289, .inr (.inl xs))), (ao, .inl (dA, 32, .inl os))] H locs → lv_has ls 13 [(0, .ref h0), (1, .long (lN (tc_opt (tc_S w n) n lim)))] → W p l e R s m args below meth c H locs mc0 ms0 Q (F0 m 447 ls []))
    : ∀ (r dd : Nat) (bs xs : Nat → Int64) (B : Nat → Option Nat) (ans : Option Nat) (H : Heap) (locs : List Loc) (ls : Array Slot), dd + r = lim + 1 → tc_rel bs B → tc_J (tc_S w n) n lim dd B ans → tc_w s D A [(h0, .inr (3, [.ref aw, .int (nI n), .int (nI lim), .ref ab, .ref an, .ref ao])), (aw, .inl (dA, 32, .inl fw)), (ab, .inl (dL, 289, .inr (.inl bs))), (an, .inl (dL, 289, .inr (.inl xs))), (ao, .inl (dA, 32, .inl os))] H locs → lv_has ls 13 [(0, .ref h0), (1, .long (tc_oL ans)), (3, .int (nI dd))] → W p l e R s m args below meth c H locs mc0 ms0 Q (F0 m 126 ls []) := by
  obtain ⟨hx, hb, hr, hml, hown, hts, hlocks, hA⟩ := id X0
  have hn2 := hC.1
  have hn := hC.2.1
  have hlim := hC.2.2.1
  have hM : tc_M = 549755813888 := rfl
  intro r
  induction r with
  | zero =>
    intro dd bs xs B ans H locs ls hr1 hB hJ hw9 hl
    obtain ⟨hP, hD, hS⟩ := hw9
    have e1 := tc_J_last hC (by omega) hJ
    subst e1
    refine lv_iload_n hx hb dX3_least_126 rfl (lv_at hl 2 rfl) ?_
    refine lv_aload_n hx hb dX3_least_127 rfl (lv_at hl 0 rfl) ?_
    refine va_get (D := D) (ci := 3) (v := .int (nI lim)) (C := RX3) (T := TX3) (N := 6) hx hb hts in_X3 hown hK hP 0 rfl rfl 2 (by decide) (hts _ q119) (fun _ h9 => h9) rfl dX3_least_128 ?_
    refine tc_icmp_gt hx hb 447 dX3_least_131 (by decide) (by omega) (by omega) (fun _ => ?_) (fun c9 => absurd c9 (by omega))
    exact kk bs xs H locs ls ⟨hP, hD, hS⟩ (lv_sub hl [0, 1] rfl)
  | succ r ih =>
    intro dd bs xs B ans H locs ls hr1 hB hJ hw9 hl
    obtain ⟨hP, hD, hS⟩ := hw9
    have hd : dd ≤ lim := by omega
    refine lv_iload_n hx hb dX3_least_126 rfl (lv_at hl 2 rfl) ?_
    refine lv_aload_n hx hb dX3_least_127 rfl (lv_at hl 0 rfl) ?_
    refine va_get (D := D) (ci := 3) (v := .int (nI lim)) (C := RX3) (T := TX3) (N := 6) hx hb hts in_X3 hown hK hP 0 rfl rfl 2 (by decide) (hts _ q119) (fun _ h9 => h9) rfl dX3_least_128 ?_
    refine tc_icmp_gt hx hb 447 dX3_least_131 (by decide) (by omega) (by omega) (fun c9 => absurd c9 (by omega)) (fun _ => ?_)
    refine lv_iconst (v := nI 0) hx hb dX3_least_134 (by decide) ?_
    refine lv_istore (lv' := [(4, .int (nI 0)), (0, .ref h0), (1, .long (tc_oL ans)), (3, .int (nI dd))]) hx hb dX3_least_135 hl (by decide) rfl (fun ls hl => ?_)
    refine ml_f4 X0 hK h0 aw ab an ao n lim fw os bs ans dd (fun xs H locs ls hX hw9 hl => ?_) 289 0 xs H locs ls (by omega) (fun q hq => absurd hq (by omega)) ⟨hP, hD, hS⟩ (lv_sub hl [1, 2, 3, 0] rfl)
    obtain ⟨hP, hD, hS⟩ := hw9
    refine lv_iconst (v := nI 0) hx hb dX3_least_161 (by decide) ?_
    refine lv_istore (lv' := [(4, .int (nI 0)), (0, .ref h0), (1, .long (tc_oL ans)), (3, .int (nI dd))]) hx hb dX3_least_162 hl (by decide) rfl (fun ls hl => ?_)
    refine ml_j X0 hK h0 aw ab an ao n lim fw os w e0 hC hw0 ho bs B hB dd hd (fun xs X ans H locs ls hX hJ hw9 hl => ?_) (n + 1) 0 xs (fun _ => none) ans H locs ls (by omega) hX (tc_J_start hC hd hJ) ⟨hP, hD, hS⟩ (lv_sub hl [1, 2, 3, 0] rfl)
    obtain ⟨hP, hD, hS⟩ := hw9
    refine lv_iconst (v := nI 0) hx hb dX3_least_410 (by decide) ?_
    refine lv_istore (lv' := [(4, .int (nI 0)), (0, .ref h0), (1, .long (tc_oL ans)), (3, .int (nI dd))]) hx hb dX3_least_411 hl (by decide) rfl (fun ls hl => ?_)
    refine ml_cp X0 hK h0 aw ab an ao n lim fw os xs ans dd (fun bs H locs ls hE hw9 hl => ?_) 289 0 bs H locs ls (by omega) (fun q hq => absurd hq (by omega)) ⟨hP, hD, hS⟩ (lv_sub hl [1, 2, 3, 0] rfl)
    obtain ⟨hP, hD, hS⟩ := hw9
    refine lv_iinc (v := (nI (dd + 1))) (lv' := [(3, .int (nI (dd + 1))), (0, .ref h0), (1, .long (tc_oL ans)), (4, .int (nI 289))]) hx hb dX3_least_441 hl (k := 2) rfl (nI_1 _) (by decide) rfl (fun ls hl => ?_)
    refine lv_goto (tgt := 126) hx hb dX3_least_444 (by decide) ?_
    exact ih (dd + 1) bs xs X ans H locs ls (by omega) (fun q hq => (hE q hq).trans (hX q hq)) hJ ⟨hP, hD, hS⟩ (lv_sub hl [1, 2, 0] rfl)
set_option maxHeartbeats 4000000 in
set_option maxRecDepth 100000 in
theorem met_least3 (l : Launch) (D : va_G) (dA dL : ClassId) (h0 aw ab an ao n lim : Nat) (fw os : Nat → Int32) (bs xs : Nat → Int64) (w : Nat → Nat) (sz : Nat) (hn2 : 2 ≤ n) (hn : n ≤ 16) (hlim : lim ≤ 15) (hw0 : ∀ i, fw i = nI (w i) ∧ w i < 2147483648) : Met l yX3_least (ws_ yX3_least cX3_least 13 (some .long)) ({ frames := 0, cells := 0, slots := 0, locals := 0 }) (va_Pc [.ref h0] (tc_Pre D dA dL [(h0, .inr (3, [.ref aw, .int (nI n), .int (nI lim), .ref ab, .ref an, .ref ao])), (aw, .inl (dA, 32, .inl fw)), (ab, .inl (dL, 289, .inr (.inl bs))), (an, .inl (dL, 289, .inr (.inl xs))), (ao, .inl (dA, 32, .inl os))] sz)) (va_Ql (fun (r : Int64) (_ : Unit) => r = tc_ans w n lim) (fun _ t => ∃ (bs2 xs2 : Nat → Int64) (os2 : Nat → Int32), tc_B D dA dL (va_A [(h0, .inr (3, [.ref aw, .int (nI n), .int (nI lim), .ref ab, .ref an, .ref ao])), (aw, .inl (dA, 32, .inl fw)), (ab, .inl (dL, 289, .inr (.inl bs))), (an, .inl (dL, 289, .inr (.inl xs))), (ao, .inl (dA, 32, .inl os))] sz) [(h0, .inr (3, [.ref aw, .int (nI n), .int (nI lim), .ref ab, .ref an, .ref ao])), (aw, .inl (dA, 32, .inl fw)), (ab, .inl (dL, 289, .inr (.inl bs2))), (an, .inl (dL, 289, .inr (.inl xs2))), (ao, .inl (dA, 32, .inl os2))] t) (va_A [(h0, .inr (3, [.ref aw, .int (nI n), .int (nI lim), .ref ab, .ref an, .ref ao])), (aw, .inl (dA, 32, .inl fw)), (ab, .inl (dL, 289, .inr (.inl bs))), (an, .inl (dL, 289, .inr (.inl xs))), (ao, .inl (dA, 32, .inl os))] sz)) 0 0 (va_A [(h0, .inr (3, [.ref aw, .int (nI n), .int (nI lim), .ref ab, .ref an, .ref ao])), (aw, .inl (dA, 32, .inl fw)), (ab, .inl (dL, 289, .inr (.inl bs))), (an, .inl (dL, 289, .inr (.inl xs))), (ao, .inl (dA, 32, .inl os))] sz) := by
  refine Met.ofW (cc := cX3_least) (maxL := 13) (ret := (some .long)) (by decide) rfl ?_
  intro p e s m args below meth c s₁ B hml hv
  obtain ⟨rfl, hsz, hP, hK, hD0⟩ := hv
  have hx := B.exec
  have hb := B.bytes
  have hr := B.returns
  have hts := atoms_spec (ws := ws_ yX3_least cX3_least 13 (some .long)) B.pre
  have hts : ∀ w ∈ lw_all, w.before _ s = true := fun w h => hts w (List.mem_cons_of_mem _ h)
  have hown : s.vm.findClass RX3 = some m.cls := findClass_of_methodNamed B.named
  have hlocks := B.notSynchronized
  subst hsz
  have hD := hD0.self (sz := s.heap.size)
  generalize hAe : va_A [(h0, .inr (3, [.ref aw, .int (nI n), .int (nI lim), .ref ab, .ref an, .ref ao])), (aw, .inl (dA, 32, .inl fw)), (ab, .inl (dL, 289, .inr (.inl bs))), (an, .inl (dL, 289, .inr (.inl xs))), (ao, .inl (dA, 32, .inl os))] s.heap.size = A at hD ⊢
  have hA : ∀ q : Nat, s.heap.size ≤ q → A q := fun q h => by rw [← hAe]; exact Or.inr h
  have hS : va_S A s.heap s.heap [] := va_S.rf
  have hl := lv_entry ([.ref h0]) (n := 13) (Nat.le_of_ble_eq_true rfl)
  rw [lg_entry_eq]
  generalize (lg_sl ([.ref h0]) ++ List.replicate (13 - (lg_sl ([.ref h0])).length) Slot.unset).toArray = ls at hl ⊢
  have hl : lv_has ls 13 [(0, .ref h0)] := hl
  have hp := tc_pow hlim
  refine lv_iconst (v := nI 1) hx hb dX3_least_0 (by decide) ?_
  refine lv_aload_n hx hb dX3_least_1 rfl (lv_at hl 0 rfl) ?_
  refine va_get (D := D) (ci := 3) (v := .int (nI lim)) (C := RX3) (T := TX3) (N := 6) hx hb hts in_X3 hown hK hP 0 rfl rfl 2 (by decide) (hts _ q119) (fun _ h9 => h9) rfl dX3_least_2 ?_
  refine lv_ishl hx hb dX3_least_5 (tc_toi _ (tc_shl1 (by omega)) ?_)
  refine lv_aload_n hx hb dX3_least_6 rfl (lv_at hl 0 rfl) ?_
  refine va_get (D := D) (ci := 3) (v := .int (nI n)) (C := RX3) (T := TX3) (N := 6) hx hb hts in_X3 hown hK hP 0 rfl rfl 1 (by decide) (hts _ q118) (fun _ h9 => h9) rfl dX3_least_7 ?_
  refine tc_icmp_ge hx hb 17 dX3_least_10 (by decide) (by omega) (by omega) (fun c1 => ?_) (fun c1 => ?_)
  ·
    refine lv_iconst (v := nI 0) hx hb dX3_least_17 (by decide) ?_
    refine lv_istore_n (lv' := [(1, .int (nI 0)), (0, .ref h0)]) hx hb dX3_least_18 rfl hl (by decide) rfl (fun ls hl => ?_)
    have X0 : tc_X p s m meth c _ cX3_least 13 RX3 (some .long) A := ⟨hx, hb, hr, hml, hown, hts, hlocks, hA⟩
    have hSb : tc_S w n n ≤ 34359738368 := Nat.le_trans (tc_S_le (fun i => (hw0 i).2) n) (Nat.mul_le_mul_right 2147483648 hn)
    have hC : tc_C (tc_S w n) n lim := ⟨hn2, hn, hlim, rfl, tc_S_mono w n, hSb, c1⟩
    refine ml_out X0 hK h0 aw ab an ao n lim fw w hn hw0 bs xs (fun os H locs ls hI hw9 hl => ?_) n 0 os s.heap [] ls (by omega) ⟨fun _ => 0, fun i h => absurd h (by omega), fun i h => absurd h (by omega), tc_so_0⟩ ⟨hP, hD, hS⟩ (lv_sub hl [1, 0] rfl)
    obtain ⟨hP, hD, hS⟩ := hw9
    obtain ⟨e0, he1, he2, he3⟩ := hI
    have ho : ∀ i, i < n → os i = nI (e0 i) ∧ e0 i < n ∧ w (e0 i) = tc_a w n (n - 1 - i) := fun i hi => ⟨he1 i hi, he2 i hi, tc_dn_a he3 i hi⟩
    refine lv_iconst (v := nI 0) hx hb dX3_least_89 (by decide) ?_
    refine lv_istore_n (lv' := [(1, .int (nI 0)), (0, .ref h0)]) hx hb dX3_least_90 rfl hl (by decide) rfl (fun ls hl => ?_)
    refine ml_f2 X0 hK h0 aw ab an ao n lim fw os xs (fun bs H locs ls hX hw9 hl => ?_) 289 0 bs H locs ls (by omega) (fun q hq => absurd hq (by omega)) ⟨hP, hD, hS⟩ (lv_sub hl [1, 0] rfl)
    obtain ⟨hP, hD, hS⟩ := hw9
    refine lv_aload_n hx hb dX3_least_113 rfl (lv_at hl 0 rfl) ?_
    refine va_get (D := D) (ci := 3) (v := .ref ab) (C := RX3) (T := TX3) (N := 6) hx hb hts in_X3 hown hK hP 0 rfl rfl 3 (by decide) (hts _ q120) (fun _ h9 => h9) rfl dX3_least_114 ?_
    refine lv_iconst (v := nI 1) hx hb dX3_least_117 (by decide) ?_
    refine lv_lconst (v := lN 0) hx hb dX3_least_118 rfl ?_
    refine tc_last hx hb hK hP hD hS 2 1 rfl rfl (by omega) (by decide) dX3_least_119 (fun H locs hP hD hS => ?_)
    have hP : va_P D vwCl [(h0, .inr (3, [.ref aw, .int (nI n), .int (nI lim), .ref ab, .ref an, .ref ao])), (aw, .inl (dA, 32, .inl fw)), (ab, .inl (dL, 289, .inr (.inl (vp_updL bs 1 (lN 0))))), (an, .inl (dL, 289, .inr (.inl xs))), (ao, .inl (dA, 32, .inl os))] H := hP
    have hD : va_D A [(h0, .inr (3, [.ref aw, .int (nI n), .int (nI lim), .ref ab, .ref an, .ref ao])), (aw, .inl (dA, 32, .inl fw)), (ab, .inl (dL, 289, .inr (.inl (vp_updL bs 1 (lN 0))))), (an, .inl (dL, 289, .inr (.inl xs))), (ao, .inl (dA, 32, .inl os))] := hD
    refine lv_ldc2 (v := (-1)) hx hb hown (hts _ q153) dX3_least_120 ?_
    refine lv_lstore_n (lv' := [(1, .long (-1)), (0, .ref h0)]) hx hb dX3_least_123 rfl hl (by decide) rfl (fun ls hl => ?_)
    refine lv_iconst (v := nI 0) hx hb dX3_least_124 (by decide) ?_
    refine lv_istore_n (lv' := [(3, .int (nI 0)), (1, .long (-1)), (0, .ref h0)]) hx hb dX3_least_125 rfl hl (by decide) rfl (fun ls hl => ?_)
    have hB : tc_rel (vp_updL bs 1 (lN 0)) tc_B0 := by
      intro q hq
      unfold tc_B0
      by_cases e : q = 1
      · rw [if_pos e, e]; exact pk_uLs
      · rw [if_neg e, pk_uLn e]; exact hX q hq
    refine ml_d X0 hK h0 aw ab an ao n lim fw os w e0 hC hw0 ho (fun bs xs H locs ls hw9 hl => ?_) (lim + 1) 0 _ xs tc_B0 none H locs ls (by omega) hB (tc_J_0 hC) ⟨hP, hD, hS⟩ (lv_sub hl [2, 1, 0] rfl)
    obtain ⟨hP, hD, hS⟩ := hw9
    refine lv_lload_n hx hb dX3_least_447 rfl (lv_at hl 1 rfl) ?_
    have hP9 := hP.sub (ws' := [(h0, .inr (3, [.ref aw, .int (nI n), .int (nI lim), .ref ab, .ref an, .ref ao])), (aw, .inl (dA, 32, .inl fw)), (ab, .inl (dL, 289, .inr (.inl bs))), (an, .inl (dL, 289, .inr (.inl xs))), (ao, .inl (dA, 32, .inl os))]) [0, 1, 2, 3, 4] rfl
    have hD9 := hD.sub (ws' := [(h0, .inr (3, [.ref aw, .int (nI n), .int (nI lim), .ref ab, .ref an, .ref ao])), (aw, .inl (dA, 32, .inl fw)), (ab, .inl (dL, 289, .inr (.inl bs))), (an, .inl (dL, 289, .inr (.inl xs))), (ao, .inl (dA, 32, .inl os))]) [0, 1, 2, 3, 4] (by decide) rfl
    exact W.lret (v := (lN (tc_opt (tc_S w n) n lim))) hx hb hr (fun t ht hW => ⟨⟨_, (), rfl, (if_pos c1).symm, ⟨bs, xs, os, tc_end hP9 hK hD9 ht hW⟩⟩, hS.F ht⟩) hS.2.2 dX3_least_448
  ·
    refine lv_ldc2 (v := (-1)) hx hb hown (hts _ q153) dX3_least_13 ?_
    have hP9 := hP.sub (ws' := [(h0, .inr (3, [.ref aw, .int (nI n), .int (nI lim), .ref ab, .ref an, .ref ao])), (aw, .inl (dA, 32, .inl fw)), (ab, .inl (dL, 289, .inr (.inl bs))), (an, .inl (dL, 289, .inr (.inl xs))), (ao, .inl (dA, 32, .inl os))]) [0, 1, 2, 3, 4] rfl
    have hD9 := hD.sub (ws' := [(h0, .inr (3, [.ref aw, .int (nI n), .int (nI lim), .ref ab, .ref an, .ref ao])), (aw, .inl (dA, 32, .inl fw)), (ab, .inl (dL, 289, .inr (.inl bs))), (an, .inl (dL, 289, .inr (.inl xs))), (ao, .inl (dA, 32, .inl os))]) [0, 1, 2, 3, 4] (by decide) rfl
    exact W.lret (v := (-1)) hx hb hr (fun t ht hW => ⟨⟨_, (), rfl, (if_neg (Nat.not_le.mpr c1)).symm, ⟨bs, xs, os, tc_end hP9 hK hD9 ht hW⟩⟩, hS.F ht⟩) hS.2.2 dX3_least_16
end
section
/-! THE CLAIM OUT OF ONE WALK OF THE LAW'S BODY. Your part is whole_start (and what it stands on); all else here is the same for every law, but numbers. -/
def R_law : String := "TrimCodesLaw"
def lw_P (b : Addr) (xs : List Int32) (args : Array Value) (s : State) : Prop := args = #[.ref b] ∧ s.IntsAt b xs ∧ xs.length ≤ 384 ∧ (Jvm.Cond.and given_1 narrow_1).before args s = true
def lw_Q (_ : Array Value) (s : State) (o : Outcome) (t : State) : Prop := o = .returned (some (.int 1)) ∧ Framed s o t [] 600000 7290000
def lw_Z (below : List Frame) (a : Array Value) (s : State) : State → Prop := fun t => ∃ o, t.status = .running ∧ Ended t below o ∧ lw_Q a s o t
/-- the law's own end, with 1 on the stack, nothing written that was there before, its room as the claim has it -/
theorem lw_ret {p : Program} {l : Launch} {e : Env} {s : State} {m : MethodId} {below : List Frame} {meth : Method} {c : Code} {b : Nat} (hx : p.tables.exec = Jvm.exec) (hb : c.code = code) (hr : meth.sig.returnType = ret) (hlocks : meth.locks = false) {pc : Nat} {H : Heap} {ls : Array Slot} (hdg : decode code pc = .ok (.ireturn, 1)) : W p l e room_1 s m #[Value.ref b] below meth c H [] 600000 7290000 (lw_Z below #[Value.ref b] s) (F0 m pc ls [.int 1]) := by
  intro T hT X
  obtain ⟨fs, hret, hrun, hended, hW, hframe⟩ := X.leave (v := some (.int 1)) (hlocks := hlocks) (fun h => by rw [hr] at h; cases h)
  have hmeth' : T.vm.method? m = some meth := X.method'
  refine ⟨T.setFrames fs, ?_, .returned (some (.int 1)), hrun, hended, rfl, ⟨_, rfl⟩, hW, hframe⟩
  jvm_step X.here [X.here.top, hx, hb, hdg, hmeth', hr, ret, narrow_b1]
  (try refine ⟨rfl, ?_⟩); (try refine ⟨rfl, ?_⟩)
  first | (intro acts; rw [hret _ acts rfl rfl rfl]) | rw [hret _ _ rfl rfl rfl]
  exact Steps.refl _
/-- what holds at the law's entry: the machine, the code, the tables' words (any of lw_tbl by 'hts w (by decide +kernel)'), the script of L ints xs at the cell b, what the Statement gives of the start (any of its parts by flat_of_before) -/
def lw_At (p : Program) (s : State) (m : MethodId) (meth : Method) (c : Code) (b L : Nat) (xs : Nat → Int32) : Prop :=
  p.tables.exec = Jvm.exec ∧ c.code = code ∧ meth.sig.returnType = ret ∧ c.maxLocals = 4 ∧ s.vm.findClass R_law = some m.cls ∧ (∀ w ∈ lw_tbl, w.before #[Value.ref b] s = true) ∧ va_X b L xs s s.heap ∧ b < s.heap.size ∧ meth.locks = false ∧ (Jvm.Cond.and given_1 narrow_1).before #[Value.ref b] s = true
theorem tc_sub6 {i L : Nat} (hi : i < 2 ^ 30) (hL : L < 2 ^ 30) : nI L - nI 6 < nI i ↔ L < i + 6 := by
  rw [Int32.lt_iff_toInt_lt, pk_sub_toInt hL (by decide), nI_toInt (by omega)]
  omega
theorem tc_sld {p : Program} {l : Launch} {e : Env} {R : Room} {s : State} {m : MethodId} {args : Array Value} {below : List Frame} {meth : Method} {c : Code} {H : Heap} {locs : List Loc} {cells slots : Nat} {Q : State → Prop} {cc : ByteArray} {pc : Nat} {ls : Array Slot} {rest : List Value} {A : Nat → Prop} {H0 : Heap} (hexec : p.tables.exec = Jvm.exec) (hb : c.code = cc) {b L : Nat} {xs : Nat → Int32} (hX : va_X b L xs s H0) (hbl : b < H0.size) (hbA : ¬ A b) (hS : va_S A H0 H locs) {k : Nat} (v : Int32) (hk : k < L) (hL : L < 2 ^ 31) (hv : xs k = v) (hdg : decode cc pc = .ok (.iaload, 1))
    (kk : W p l e R s m args below meth c H locs cells slots Q (F0 m (pc + 1) ls (.int v :: rest))) : W p l e R s m args below meth c H locs cells slots Q (F0 m pc ls (.int (nI k) :: .ref b :: rest)) :=
  va_sld hexec hb hX hbl hbA hS (vp_in_nI hk hL) hdg (tc_toi _ (by rw [nI_clamp (Nat.lt_trans hk hL)]; exact hv) kk)
def tc_pos (f : Nat → Int32) : Prop := ∀ i, f i = nI (f i).toNatClampNeg ∧ (f i).toNatClampNeg < 2147483648
theorem tc_pos_0 : tc_pos (fun _ => 0) := fun _ => (by decide : (0 : Int32) = nI (0 : Int32).toNatClampNeg ∧ (0 : Int32).toNatClampNeg < 2147483648)
theorem tc_pos_u {f : Nat → Int32} {k v : Nat} (h : tc_pos f) (hv : v < 2147483648) : tc_pos (upd f k (nI v)) := by
  intro j
  by_cases e : j = k
  · rw [e, pk_us, nI_clamp hv]
    exact ⟨rfl, hv⟩
  · rw [pk_un e]
    exact h j
theorem tc_pos_w {f : Nat → Int32} {i a b c d : Nat} (h : tc_pos f) : tc_pos (tc_wset f i a b c d) := tc_pos_u (tc_pos_u (tc_pos_u (tc_pos_u h (Nat.mod_lt _ (by decide))) (Nat.mod_lt _ (by decide))) (Nat.mod_lt _ (by decide))) (Nat.mod_lt _ (by decide))
theorem tc_let_in (x : Nat) : 2 ≤ tc_let x ∧ tc_let x ≤ 16 := by unfold tc_let; omega
theorem tc_lim_in (x : Nat) : tc_lim x ≤ 15 := by unfold tc_lim; omega
theorem tc_blindN {D : va_G} {dA dL : ClassId} {ws : va_W} {sz : Nat} {av : List Value} {x1 x2 : Cond} (h1 : x1.onTables = true) (h2 : x2.onTables = true) : FrameBlind (va_Pc av (fun U => tc_Pre D dA dL ws sz U ∧ va_Nw x1 U ∧ va_Nw x2 U)) := fun a U g mk q => by
  obtain ⟨q0, q1, q2, q3⟩ := q
  have := tc_blind (D := D) (dA := dA) (dL := dL) (ws := ws) (sz := sz) (av := av) a U g mk ⟨q0, q1⟩
  exact ⟨q0, this.2, va_Nw.same (u := U) (U := U.calling g mk a) h1 rfl q2, va_Nw.same (u := U) (U := U.calling g mk a) h2 rfl q3⟩
set_option maxHeartbeats 4000000 in
set_option maxRecDepth 100000 in
theorem law_loop {p : Program} {l : Launch} {e : Env} {s : State} {m : MethodId} {below : List Frame} {meth : Method} {c : Code} {D : va_G} {dA dL : ClassId} {b L : Nat} {xs : Nat → Int32} (hL : L ≤ 384) (C0 : lw_At p s m meth c b L xs) (hK : va_K D vwCl (tA dA dL) s) :
    ∀ (fuel i : Nat), L + 7 ≤ i + fuel → i ≤ L + 6 → ∀ (t0 aw as ao au an anc ax axc m0 mw mb mn mo n lim : Nat) (fw fs os : Nat → Int32) (gs gn gx bs ys : Nat → Int64), 2 ≤ n → n ≤ 16 → lim ≤ 15 → tc_pos fw → gs 0 = lN 0 → ∀ (H : Heap) (locs : List Loc) (ls : Array Slot), va_P D vwCl [(t0, .inr (0, [.ref aw, .int (nI n), .int (nI lim), .ref as, .ref an, .ref ax])), (aw, .inl (dA, 32, .inl fw)), (as, .inr (1, [.ref ao, .ref au])), (ao, .inl (dA, 32, .inl fs)), (au, .inl (dL, 33, .inr (.inl gs))), (an, .inr (2, [.ref anc])), (anc, .inl (dL, 1089, .inr (.inl gn))), (ax, .inr (2, [.ref axc])), (axc, .inl (dL, 1089, .inr (.inl gx))), (m0, .inr (3, [.ref mw, .int (nI n), .int (nI lim), .ref mb, .ref mn, .ref mo])), (mw, .inl (dA, 32, .inl fw)), (mb, .inl (dL, 289, .inr (.inl bs))), (mn, .inl (dL, 289, .inr (.inl ys))), (mo, .inl (dA, 32, .inl os))] H → va_D (fun q : Nat => s.heap.size ≤ q) [(t0, .inr (0, [.ref aw, .int (nI n), .int (nI lim), .ref as, .ref an, .ref ax])), (aw, .inl (dA, 32, .inl fw)), (as, .inr (1, [.ref ao, .ref au])), (ao, .inl (dA, 32, .inl fs)), (au, .inl (dL, 33, .inr (.inl gs))), (an, .inr (2, [.ref anc])), (anc, .inl (dL, 1089, .inr (.inl gn))), (ax, .inr (2, [.ref axc])), (axc, .inl (dL, 1089, .inr (.inl gx))), (m0, .inr (3, [.ref mw, .int (nI n), .int (nI lim), .ref mb, .ref mn, .ref mo])), (mw, .inl (dA, 32, .inl fw)), (mb, .inl (dL, 289, .inr (.inl bs))), (mn, .inl (dL, 289, .inr (.inl ys))), (mo, .inl (dA, 32, .inl os))] → va_S (fun q : Nat => s.heap.size ≤ q) s.heap H locs → lv_has ls 4 [(0, .ref b), (1, .ref t0), (2, .ref m0), (3, .int (nI i))] → W p l e room_1 s m #[Value.ref b] below meth c H locs 14 2933 (lw_Z below #[Value.ref b] s) (F0 m 18 ls []) := by
  obtain ⟨hx, hb, hr, hml, hown, hts0, hX, hbl, hlocks, hgv⟩ := C0
  have hts : ∀ w ∈ lw_all, w.before #[Value.ref b] s = true := fun w h => hts0 w (lw_all_tbl h)
  have hA : ∀ q : Nat, s.heap.size ≤ q → (fun q : Nat => s.heap.size ≤ q) q := fun _ h => h
  have hbA : ¬ (fun q : Nat => s.heap.size ≤ q) b := Nat.not_le.mpr hbl
  intro fuel
  induction fuel with
  | zero => intro i h1 h2; exact absurd h1 (by omega)
  | succ fuel ih =>
    intro i hi1 hi2 t0 aw as ao au an anc ax axc m0 mw mb mn mo n lim fw fs os gs gn gx bs ys hn2 hn hlim hpos hg H locs ls hP hD hS hl
    refine lv_iload_n hx hb dL_law_18 rfl (lv_at hl 3 rfl) ?_
    refine lv_aload_n hx hb dL_law_19 rfl (lv_at hl 0 rfl) ?_
    refine va_slen hx hb hX hbl hbA hS dL_law_20 (tc_toi (nI L) rfl ?_)
    refine lv_bipush (v := nI 6) hx hb dL_law_21 (by decide) ?_
    refine lv_isub hx hb dL_law_23 ?_
    refine lv_icmp_gt (tgt := 187) hx hb dL_law_24 (by decide) (fun c1 => ?_) (fun c1 => ?_)
    · refine lv_iconst (v := 1) hx hb dL_law_187 (by decide) ?_
      refine va_forget (fun q hq => hS.2.2 q hq) ?_
      refine W.widen (k := 600000) (n := 7290000) (by omega) (by omega) ?_
      exact lw_ret hx hb hr hlocks dL_law_188
    ·
      have c1 : i + 6 ≤ L := Nat.not_lt.mp fun q => c1 ((tc_sub6 (by omega) (by omega)).mpr (by omega))
      obtain ⟨x0, e0⟩ := tc_nI_of (xs (i + 0))
      obtain ⟨x1, e1⟩ := tc_nI_of (xs (i + 1))
      obtain ⟨x2, e2⟩ := tc_nI_of (xs (i + 2))
      obtain ⟨x3, e3⟩ := tc_nI_of (xs (i + 3))
      obtain ⟨x4, e4⟩ := tc_nI_of (xs (i + 4))
      obtain ⟨x5, e5⟩ := tc_nI_of (xs (i + 5))
      refine lv_aload_n hx hb dL_law_27 rfl (lv_at hl 0 rfl) ?_
      refine lv_iload_n hx hb dL_law_28 rfl (lv_at hl 3 rfl) ?_
      refine tc_sld hx hb hX hbl hbA hS (nI x0) (by omega) (by omega) e0 dL_law_29 ?_
      refine lv_iconst (v := nI 3) hx hb dL_law_30 (by decide) ?_
      refine lv_iand hx hb dL_law_31 (tc_toi _ (tc_and3 _) ?_)
      have h4 : x0 % 4 = 0 ∨ x0 % 4 = 1 ∨ x0 % 4 = 2 ∨ x0 % 4 = 3 := by omega
      rcases h4 with h4 | h4 | h4 | h4
      ·
        refine tc_toi (nI 0) (congrArg nI h4) ?_
        refine lv_tableIn (off := 32) (tgt := 64) hx hb dL_law_32 (by decide) (by decide) rfl (by decide) ?_
        refine lv_aload_n hx hb dL_law_64 rfl (lv_at hl 1 rfl) ?_
        refine lv_aload_n hx hb dL_law_65 rfl (lv_at hl 0 rfl) ?_
        refine lv_iload_n hx hb dL_law_66 rfl (lv_at hl 3 rfl) ?_
        refine lv_iconst (v := nI 1) hx hb dL_law_67 (by decide) ?_
        refine tc_iadd hx hb dL_law_68 ?_
        refine tc_sld hx hb hX hbl hbA hS (nI x1) (by omega) (by omega) e1 dL_law_69 ?_
        have hPc := hP.sub (ws' := [(t0, .inr (0, [.ref aw, .int (nI n), .int (nI lim), .ref as, .ref an, .ref ax]))]) [0] rfl
        have hDc := hD.sub (ws' := [(t0, .inr (0, [.ref aw, .int (nI n), .int (nI lim), .ref as, .ref an, .ref ax]))]) [0] (by decide) rfl
        have hFc := va_free (wc := [(t0, .inr (0, [.ref aw, .int (nI n), .int (nI lim), .ref as, .ref an, .ref ax]))]) hD hS hA [0] rfl
        refine va_callv (va_runV (As := [.int (nI x1)]) (rest := []) ⟨hx, hb, hml, hown, hts⟩ (met_let0 l D dA dL t0 x1 (.ref aw) (.int (nI lim)) (.ref as) (.ref an) (.ref ax) (nI n) H.size) (cwV 1 hts (lw_V q58 q59 q60 q1 q61) rfl rfl rfl (by decide +kernel) ⟨Nat.le_of_ble_eq_true rfl, Nat.le_of_ble_eq_true rfl⟩) ⟨tc_blind, va_recv hK hPc (ci := 0) (q0 := 0) rfl rfl, tc_pre hPc hK hDc⟩ rfl rfl hl.1 rfl (lv_room (Nat.le_of_ble_eq_true rfl)) dL_law_70 ⟨by show _ ≤ 600000; omega, by show _ ≤ 7290000; omega⟩) hS (fun q _ h => hFc q h) hFc (fun u t9 H1 locs ht hvm hw hB hz1 hk1 hS => ?_)
        obtain ⟨hP1, -, hD1⟩ := hB
        rw [ht] at hP1
        obtain ⟨hP, hD⟩ := va_join (wr := [(aw, .inl (dA, 32, .inl fw)), (as, .inr (1, [.ref ao, .ref au])), (ao, .inl (dA, 32, .inl fs)), (au, .inl (dL, 33, .inr (.inl gs))), (an, .inr (2, [.ref anc])), (anc, .inl (dL, 1089, .inr (.inl gn))), (ax, .inr (2, [.ref axc])), (axc, .inl (dL, 1089, .inr (.inl gx))), (m0, .inr (3, [.ref mw, .int (nI n), .int (nI lim), .ref mb, .ref mn, .ref mo])), (mw, .inl (dA, 32, .inl fw)), (mb, .inl (dL, 289, .inr (.inl bs))), (mn, .inl (dL, 289, .inr (.inl ys))), (mo, .inl (dA, 32, .inl os))]) (w1 := [(t0, .inr (0, [.ref aw, .int (nI (tc_let x1)), .int (nI lim), .ref as, .ref an, .ref ax]))]) hP hD [0] [1, 2, 3, 4, 5, 6, 7, 8, 9, 10, 11, 12, 13] rfl rfl (by decide) (by decide) hk1 hFc hP1 hD1
        generalize H1 = H at hP hS ⊢
        have hP : va_P D vwCl [(t0, .inr (0, [.ref aw, .int (nI (tc_let x1)), .int (nI lim), .ref as, .ref an, .ref ax])), (aw, .inl (dA, 32, .inl fw)), (as, .inr (1, [.ref ao, .ref au])), (ao, .inl (dA, 32, .inl fs)), (au, .inl (dL, 33, .inr (.inl gs))), (an, .inr (2, [.ref anc])), (anc, .inl (dL, 1089, .inr (.inl gn))), (ax, .inr (2, [.ref axc])), (axc, .inl (dL, 1089, .inr (.inl gx))), (m0, .inr (3, [.ref mw, .int (nI n), .int (nI lim), .ref mb, .ref mn, .ref mo])), (mw, .inl (dA, 32, .inl fw)), (mb, .inl (dL, 289, .inr (.inl bs))), (mn, .inl (dL, 289, .inr (.inl ys))), (mo, .inl (dA, 32, .inl os))] H := hP.sub [13, 0, 1, 2, 3, 4, 5, 6, 7, 8, 9, 10, 11, 12] rfl
        have hD : va_D (fun q : Nat => s.heap.size ≤ q) [(t0, .inr (0, [.ref aw, .int (nI (tc_let x1)), .int (nI lim), .ref as, .ref an, .ref ax])), (aw, .inl (dA, 32, .inl fw)), (as, .inr (1, [.ref ao, .ref au])), (ao, .inl (dA, 32, .inl fs)), (au, .inl (dL, 33, .inr (.inl gs))), (an, .inr (2, [.ref anc])), (anc, .inl (dL, 1089, .inr (.inl gn))), (ax, .inr (2, [.ref axc])), (axc, .inl (dL, 1089, .inr (.inl gx))), (m0, .inr (3, [.ref mw, .int (nI n), .int (nI lim), .ref mb, .ref mn, .ref mo])), (mw, .inl (dA, 32, .inl fw)), (mb, .inl (dL, 289, .inr (.inl bs))), (mn, .inl (dL, 289, .inr (.inl ys))), (mo, .inl (dA, 32, .inl os))] := hD.sub [13, 0, 1, 2, 3, 4, 5, 6, 7, 8, 9, 10, 11, 12] (by decide) rfl
        refine W.widen (k := 14) (n := 2933) (Nat.le_refl _) (Nat.le_refl _) ?_
        refine lv_aload_n hx hb dL_law_73 rfl (lv_at hl 2 rfl) ?_
        refine lv_aload_n hx hb dL_law_74 rfl (lv_at hl 0 rfl) ?_
        refine lv_iload_n hx hb dL_law_75 rfl (lv_at hl 3 rfl) ?_
        refine lv_iconst (v := nI 1) hx hb dL_law_76 (by decide) ?_
        refine tc_iadd hx hb dL_law_77 ?_
        refine tc_sld hx hb hX hbl hbA hS (nI x1) (by omega) (by omega) e1 dL_law_78 ?_
        have hPc := hP.sub (ws' := [(m0, .inr (3, [.ref mw, .int (nI n), .int (nI lim), .ref mb, .ref mn, .ref mo]))]) [9] rfl
        have hDc := hD.sub (ws' := [(m0, .inr (3, [.ref mw, .int (nI n), .int (nI lim), .ref mb, .ref mn, .ref mo]))]) [9] (by decide) rfl
        have hFc := va_free (wc := [(m0, .inr (3, [.ref mw, .int (nI n), .int (nI lim), .ref mb, .ref mn, .ref mo]))]) hD hS hA [9] rfl
        refine va_callv (va_runV (As := [.int (nI x1)]) (rest := []) ⟨hx, hb, hml, hown, hts⟩ (met_let3 l D dA dL m0 x1 (.ref mw) (.int (nI lim)) (.ref mb) (.ref mn) (.ref mo) (nI n) H.size) (cwV 1 hts (lw_V q136 q137 q138 q4 q139) rfl rfl rfl (by decide +kernel) ⟨Nat.le_of_ble_eq_true rfl, Nat.le_of_ble_eq_true rfl⟩) ⟨tc_blind, va_recv hK hPc (ci := 3) (q0 := 0) rfl rfl, tc_pre hPc hK hDc⟩ rfl rfl hl.1 rfl (lv_room (Nat.le_of_ble_eq_true rfl)) dL_law_79 ⟨by show _ ≤ 600000; omega, by show _ ≤ 7290000; omega⟩) hS (fun q _ h => hFc q h) hFc (fun u t9 H1 locs ht hvm hw hB hz1 hk1 hS => ?_)
        obtain ⟨hP1, -, hD1⟩ := hB
        rw [ht] at hP1
        obtain ⟨hP, hD⟩ := va_join (wr := [(t0, .inr (0, [.ref aw, .int (nI (tc_let x1)), .int (nI lim), .ref as, .ref an, .ref ax])), (aw, .inl (dA, 32, .inl fw)), (as, .inr (1, [.ref ao, .ref au])), (ao, .inl (dA, 32, .inl fs)), (au, .inl (dL, 33, .inr (.inl gs))), (an, .inr (2, [.ref anc])), (anc, .inl (dL, 1089, .inr (.inl gn))), (ax, .inr (2, [.ref axc])), (axc, .inl (dL, 1089, .inr (.inl gx))), (mw, .inl (dA, 32, .inl fw)), (mb, .inl (dL, 289, .inr (.inl bs))), (mn, .inl (dL, 289, .inr (.inl ys))), (mo, .inl (dA, 32, .inl os))]) (w1 := [(m0, .inr (3, [.ref mw, .int (nI (tc_let x1)), .int (nI lim), .ref mb, .ref mn, .ref mo]))]) hP hD [9] [0, 1, 2, 3, 4, 5, 6, 7, 8, 10, 11, 12, 13] rfl rfl (by decide) (by decide) hk1 hFc hP1 hD1
        generalize H1 = H at hP hS ⊢
        have hP : va_P D vwCl [(t0, .inr (0, [.ref aw, .int (nI (tc_let x1)), .int (nI lim), .ref as, .ref an, .ref ax])), (aw, .inl (dA, 32, .inl fw)), (as, .inr (1, [.ref ao, .ref au])), (ao, .inl (dA, 32, .inl fs)), (au, .inl (dL, 33, .inr (.inl gs))), (an, .inr (2, [.ref anc])), (anc, .inl (dL, 1089, .inr (.inl gn))), (ax, .inr (2, [.ref axc])), (axc, .inl (dL, 1089, .inr (.inl gx))), (m0, .inr (3, [.ref mw, .int (nI (tc_let x1)), .int (nI lim), .ref mb, .ref mn, .ref mo])), (mw, .inl (dA, 32, .inl fw)), (mb, .inl (dL, 289, .inr (.inl bs))), (mn, .inl (dL, 289, .inr (.inl ys))), (mo, .inl (dA, 32, .inl os))] H := hP.sub [0, 1, 2, 3, 4, 5, 6, 7, 8, 13, 9, 10, 11, 12] rfl
        have hD : va_D (fun q : Nat => s.heap.size ≤ q) [(t0, .inr (0, [.ref aw, .int (nI (tc_let x1)), .int (nI lim), .ref as, .ref an, .ref ax])), (aw, .inl (dA, 32, .inl fw)), (as, .inr (1, [.ref ao, .ref au])), (ao, .inl (dA, 32, .inl fs)), (au, .inl (dL, 33, .inr (.inl gs))), (an, .inr (2, [.ref anc])), (anc, .inl (dL, 1089, .inr (.inl gn))), (ax, .inr (2, [.ref axc])), (axc, .inl (dL, 1089, .inr (.inl gx))), (m0, .inr (3, [.ref mw, .int (nI (tc_let x1)), .int (nI lim), .ref mb, .ref mn, .ref mo])), (mw, .inl (dA, 32, .inl fw)), (mb, .inl (dL, 289, .inr (.inl bs))), (mn, .inl (dL, 289, .inr (.inl ys))), (mo, .inl (dA, 32, .inl os))] := hD.sub [0, 1, 2, 3, 4, 5, 6, 7, 8, 13, 9, 10, 11, 12] (by decide) rfl
        refine W.widen (k := 14) (n := 2933) (Nat.le_refl _) (Nat.le_refl _) ?_
        refine lv_goto (tgt := 181) hx hb dL_law_82 (by decide) ?_
        refine lv_iinc (v := (nI (i + 6))) (lv' := [(3, .int (nI (i + 6))), (0, .ref b), (1, .ref t0), (2, .ref m0)]) hx hb dL_law_181 hl (k := 3) rfl (nI_add _ 6) (by decide) rfl (fun ls hl => ?_)
        refine lv_goto (tgt := 18) hx hb dL_law_184 (by decide) ?_
        exact ih (i + 6) (by omega) (by omega) t0 aw as ao au an anc ax axc m0 mw mb mn mo (tc_let x1) lim fw fs os gs gn gx bs ys (tc_let_in x1).1 (tc_let_in x1).2 hlim hpos hg H locs ls hP hD hS (lv_sub hl [1, 2, 3, 0] rfl)
      ·
        refine tc_toi (nI 1) (congrArg nI h4) ?_
        refine lv_tableIn (off := 53) (tgt := 85) hx hb dL_law_32 (by decide) (by decide) rfl (by decide) ?_
        refine lv_aload_n hx hb dL_law_85 rfl (lv_at hl 1 rfl) ?_
        refine lv_aload_n hx hb dL_law_86 rfl (lv_at hl 0 rfl) ?_
        refine lv_iload_n hx hb dL_law_87 rfl (lv_at hl 3 rfl) ?_
        refine lv_iconst (v := nI 1) hx hb dL_law_88 (by decide) ?_
        refine tc_iadd hx hb dL_law_89 ?_
        refine tc_sld hx hb hX hbl hbA hS (nI x1) (by omega) (by omega) e1 dL_law_90 ?_
        have hPc := hP.sub (ws' := [(t0, .inr (0, [.ref aw, .int (nI n), .int (nI lim), .ref as, .ref an, .ref ax]))]) [0] rfl
        have hDc := hD.sub (ws' := [(t0, .inr (0, [.ref aw, .int (nI n), .int (nI lim), .ref as, .ref an, .ref ax]))]) [0] (by decide) rfl
        have hFc := va_free (wc := [(t0, .inr (0, [.ref aw, .int (nI n), .int (nI lim), .ref as, .ref an, .ref ax]))]) hD hS hA [0] rfl
        refine va_callv (va_runV (As := [.int (nI x1)]) (rest := []) ⟨hx, hb, hml, hown, hts⟩ (met_lim0 l D dA dL t0 x1 (.ref aw) (.int (nI n)) (.ref as) (.ref an) (.ref ax) (nI lim) H.size) (cwV 1 hts (lw_V q63 q64 q65 q1 q66) rfl rfl rfl (by decide +kernel) ⟨Nat.le_of_ble_eq_true rfl, Nat.le_of_ble_eq_true rfl⟩) ⟨tc_blind, va_recv hK hPc (ci := 0) (q0 := 0) rfl rfl, tc_pre hPc hK hDc⟩ rfl rfl hl.1 rfl (lv_room (Nat.le_of_ble_eq_true rfl)) dL_law_91 ⟨by show _ ≤ 600000; omega, by show _ ≤ 7290000; omega⟩) hS (fun q _ h => hFc q h) hFc (fun u t9 H1 locs ht hvm hw hB hz1 hk1 hS => ?_)
        obtain ⟨hP1, -, hD1⟩ := hB
        rw [ht] at hP1
        obtain ⟨hP, hD⟩ := va_join (wr := [(aw, .inl (dA, 32, .inl fw)), (as, .inr (1, [.ref ao, .ref au])), (ao, .inl (dA, 32, .inl fs)), (au, .inl (dL, 33, .inr (.inl gs))), (an, .inr (2, [.ref anc])), (anc, .inl (dL, 1089, .inr (.inl gn))), (ax, .inr (2, [.ref axc])), (axc, .inl (dL, 1089, .inr (.inl gx))), (m0, .inr (3, [.ref mw, .int (nI n), .int (nI lim), .ref mb, .ref mn, .ref mo])), (mw, .inl (dA, 32, .inl fw)), (mb, .inl (dL, 289, .inr (.inl bs))), (mn, .inl (dL, 289, .inr (.inl ys))), (mo, .inl (dA, 32, .inl os))]) (w1 := [(t0, .inr (0, [.ref aw, .int (nI n), .int (nI (tc_lim x1)), .ref as, .ref an, .ref ax]))]) hP hD [0] [1, 2, 3, 4, 5, 6, 7, 8, 9, 10, 11, 12, 13] rfl rfl (by decide) (by decide) hk1 hFc hP1 hD1
        generalize H1 = H at hP hS ⊢
        have hP : va_P D vwCl [(t0, .inr (0, [.ref aw, .int (nI n), .int (nI (tc_lim x1)), .ref as, .ref an, .ref ax])), (aw, .inl (dA, 32, .inl fw)), (as, .inr (1, [.ref ao, .ref au])), (ao, .inl (dA, 32, .inl fs)), (au, .inl (dL, 33, .inr (.inl gs))), (an, .inr (2, [.ref anc])), (anc, .inl (dL, 1089, .inr (.inl gn))), (ax, .inr (2, [.ref axc])), (axc, .inl (dL, 1089, .inr (.inl gx))), (m0, .inr (3, [.ref mw, .int (nI n), .int (nI lim), .ref mb, .ref mn, .ref mo])), (mw, .inl (dA, 32, .inl fw)), (mb, .inl (dL, 289, .inr (.inl bs))), (mn, .inl (dL, 289, .inr (.inl ys))), (mo, .inl (dA, 32, .inl os))] H := hP.sub [13, 0, 1, 2, 3, 4, 5, 6, 7, 8, 9, 10, 11, 12] rfl
        have hD : va_D (fun q : Nat => s.heap.size ≤ q) [(t0, .inr (0, [.ref aw, .int (nI n), .int (nI (tc_lim x1)), .ref as, .ref an, .ref ax])), (aw, .inl (dA, 32, .inl fw)), (as, .inr (1, [.ref ao, .ref au])), (ao, .inl (dA, 32, .inl fs)), (au, .inl (dL, 33, .inr (.inl gs))), (an, .inr (2, [.ref anc])), (anc, .inl (dL, 1089, .inr (.inl gn))), (ax, .inr (2, [.ref axc])), (axc, .inl (dL, 1089, .inr (.inl gx))), (m0, .inr (3, [.ref mw, .int (nI n), .int (nI lim), .ref mb, .ref mn, .ref mo])), (mw, .inl (dA, 32, .inl fw)), (mb, .inl (dL, 289, .inr (.inl bs))), (mn, .inl (dL, 289, .inr (.inl ys))), (mo, .inl (dA, 32, .inl os))] := hD.sub [13, 0, 1, 2, 3, 4, 5, 6, 7, 8, 9, 10, 11, 12] (by decide) rfl
        refine W.widen (k := 14) (n := 2933) (Nat.le_refl _) (Nat.le_refl _) ?_
        refine lv_aload_n hx hb dL_law_94 rfl (lv_at hl 2 rfl) ?_
        refine lv_aload_n hx hb dL_law_95 rfl (lv_at hl 0 rfl) ?_
        refine lv_iload_n hx hb dL_law_96 rfl (lv_at hl 3 rfl) ?_
        refine lv_iconst (v := nI 1) hx hb dL_law_97 (by decide) ?_
        refine tc_iadd hx hb dL_law_98 ?_
        refine tc_sld hx hb hX hbl hbA hS (nI x1) (by omega) (by omega) e1 dL_law_99 ?_
        have hPc := hP.sub (ws' := [(m0, .inr (3, [.ref mw, .int (nI n), .int (nI lim), .ref mb, .ref mn, .ref mo]))]) [9] rfl
        have hDc := hD.sub (ws' := [(m0, .inr (3, [.ref mw, .int (nI n), .int (nI lim), .ref mb, .ref mn, .ref mo]))]) [9] (by decide) rfl
        have hFc := va_free (wc := [(m0, .inr (3, [.ref mw, .int (nI n), .int (nI lim), .ref mb, .ref mn, .ref mo]))]) hD hS hA [9] rfl
        refine va_callv (va_runV (As := [.int (nI x1)]) (rest := []) ⟨hx, hb, hml, hown, hts⟩ (met_lim3 l D dA dL m0 x1 (.ref mw) (.int (nI n)) (.ref mb) (.ref mn) (.ref mo) (nI lim) H.size) (cwV 1 hts (lw_V q141 q142 q143 q4 q144) rfl rfl rfl (by decide +kernel) ⟨Nat.le_of_ble_eq_true rfl, Nat.le_of_ble_eq_true rfl⟩) ⟨tc_blind, va_recv hK hPc (ci := 3) (q0 := 0) rfl rfl, tc_pre hPc hK hDc⟩ rfl rfl hl.1 rfl (lv_room (Nat.le_of_ble_eq_true rfl)) dL_law_100 ⟨by show _ ≤ 600000; omega, by show _ ≤ 7290000; omega⟩) hS (fun q _ h => hFc q h) hFc (fun u t9 H1 locs ht hvm hw hB hz1 hk1 hS => ?_)
        obtain ⟨hP1, -, hD1⟩ := hB
        rw [ht] at hP1
        obtain ⟨hP, hD⟩ := va_join (wr := [(t0, .inr (0, [.ref aw, .int (nI n), .int (nI (tc_lim x1)), .ref as, .ref an, .ref ax])), (aw, .inl (dA, 32, .inl fw)), (as, .inr (1, [.ref ao, .ref au])), (ao, .inl (dA, 32, .inl fs)), (au, .inl (dL, 33, .inr (.inl gs))), (an, .inr (2, [.ref anc])), (anc, .inl (dL, 1089, .inr (.inl gn))), (ax, .inr (2, [.ref axc])), (axc, .inl (dL, 1089, .inr (.inl gx))), (mw, .inl (dA, 32, .inl fw)), (mb, .inl (dL, 289, .inr (.inl bs))), (mn, .inl (dL, 289, .inr (.inl ys))), (mo, .inl (dA, 32, .inl os))]) (w1 := [(m0, .inr (3, [.ref mw, .int (nI n), .int (nI (tc_lim x1)), .ref mb, .ref mn, .ref mo]))]) hP hD [9] [0, 1, 2, 3, 4, 5, 6, 7, 8, 10, 11, 12, 13] rfl rfl (by decide) (by decide) hk1 hFc hP1 hD1
        generalize H1 = H at hP hS ⊢
        have hP : va_P D vwCl [(t0, .inr (0, [.ref aw, .int (nI n), .int (nI (tc_lim x1)), .ref as, .ref an, .ref ax])), (aw, .inl (dA, 32, .inl fw)), (as, .inr (1, [.ref ao, .ref au])), (ao, .inl (dA, 32, .inl fs)), (au, .inl (dL, 33, .inr (.inl gs))), (an, .inr (2, [.ref anc])), (anc, .inl (dL, 1089, .inr (.inl gn))), (ax, .inr (2, [.ref axc])), (axc, .inl (dL, 1089, .inr (.inl gx))), (m0, .inr (3, [.ref mw, .int (nI n), .int (nI (tc_lim x1)), .ref mb, .ref mn, .ref mo])), (mw, .inl (dA, 32, .inl fw)), (mb, .inl (dL, 289, .inr (.inl bs))), (mn, .inl (dL, 289, .inr (.inl ys))), (mo, .inl (dA, 32, .inl os))] H := hP.sub [0, 1, 2, 3, 4, 5, 6, 7, 8, 13, 9, 10, 11, 12] rfl
        have hD : va_D (fun q : Nat => s.heap.size ≤ q) [(t0, .inr (0, [.ref aw, .int (nI n), .int (nI (tc_lim x1)), .ref as, .ref an, .ref ax])), (aw, .inl (dA, 32, .inl fw)), (as, .inr (1, [.ref ao, .ref au])), (ao, .inl (dA, 32, .inl fs)), (au, .inl (dL, 33, .inr (.inl gs))), (an, .inr (2, [.ref anc])), (anc, .inl (dL, 1089, .inr (.inl gn))), (ax, .inr (2, [.ref axc])), (axc, .inl (dL, 1089, .inr (.inl gx))), (m0, .inr (3, [.ref mw, .int (nI n), .int (nI (tc_lim x1)), .ref mb, .ref mn, .ref mo])), (mw, .inl (dA, 32, .inl fw)), (mb, .inl (dL, 289, .inr (.inl bs))), (mn, .inl (dL, 289, .inr (.inl ys))), (mo, .inl (dA, 32, .inl os))] := hD.sub [0, 1, 2, 3, 4, 5, 6, 7, 8, 13, 9, 10, 11, 12] (by decide) rfl
        refine W.widen (k := 14) (n := 2933) (Nat.le_refl _) (Nat.le_refl _) ?_
        refine lv_goto (tgt := 181) hx hb dL_law_103 (by decide) ?_
        refine lv_iinc (v := (nI (i + 6))) (lv' := [(3, .int (nI (i + 6))), (0, .ref b), (1, .ref t0), (2, .ref m0)]) hx hb dL_law_181 hl (k := 3) rfl (nI_add _ 6) (by decide) rfl (fun ls hl => ?_)
        refine lv_goto (tgt := 18) hx hb dL_law_184 (by decide) ?_
        exact ih (i + 6) (by omega) (by omega) t0 aw as ao au an anc ax axc m0 mw mb mn mo n (tc_lim x1) fw fs os gs gn gx bs ys hn2 hn (tc_lim_in x1) hpos hg H locs ls hP hD hS (lv_sub hl [1, 2, 3, 0] rfl)
      ·
        refine tc_toi (nI 2) (congrArg nI h4) ?_
        refine lv_tableIn (off := 74) (tgt := 106) hx hb dL_law_32 (by decide) (by decide) rfl (by decide) ?_
        refine lv_aload_n hx hb dL_law_106 rfl (lv_at hl 1 rfl) ?_
        refine lv_aload_n hx hb dL_law_107 rfl (lv_at hl 0 rfl) ?_
        refine lv_iload_n hx hb dL_law_108 rfl (lv_at hl 3 rfl) ?_
        refine lv_iconst (v := nI 1) hx hb dL_law_109 (by decide) ?_
        refine tc_iadd hx hb dL_law_110 ?_
        refine tc_sld hx hb hX hbl hbA hS (nI x1) (by omega) (by omega) e1 dL_law_111 ?_
        refine lv_aload_n hx hb dL_law_112 rfl (lv_at hl 0 rfl) ?_
        refine lv_iload_n hx hb dL_law_113 rfl (lv_at hl 3 rfl) ?_
        refine lv_iconst (v := nI 2) hx hb dL_law_114 (by decide) ?_
        refine tc_iadd hx hb dL_law_115 ?_
        refine tc_sld hx hb hX hbl hbA hS (nI x2) (by omega) (by omega) e2 dL_law_116 ?_
        refine lv_aload_n hx hb dL_law_117 rfl (lv_at hl 0 rfl) ?_
        refine lv_iload_n hx hb dL_law_118 rfl (lv_at hl 3 rfl) ?_
        refine lv_iconst (v := nI 3) hx hb dL_law_119 (by decide) ?_
        refine tc_iadd hx hb dL_law_120 ?_
        refine tc_sld hx hb hX hbl hbA hS (nI x3) (by omega) (by omega) e3 dL_law_121 ?_
        refine lv_aload_n hx hb dL_law_122 rfl (lv_at hl 0 rfl) ?_
        refine lv_iload_n hx hb dL_law_123 rfl (lv_at hl 3 rfl) ?_
        refine lv_iconst (v := nI 4) hx hb dL_law_124 (by decide) ?_
        refine tc_iadd hx hb dL_law_125 ?_
        refine tc_sld hx hb hX hbl hbA hS (nI x4) (by omega) (by omega) e4 dL_law_126 ?_
        refine lv_aload_n hx hb dL_law_127 rfl (lv_at hl 0 rfl) ?_
        refine lv_iload_n hx hb dL_law_128 rfl (lv_at hl 3 rfl) ?_
        refine lv_iconst (v := nI 5) hx hb dL_law_129 (by decide) ?_
        refine tc_iadd hx hb dL_law_130 ?_
        refine tc_sld hx hb hX hbl hbA hS (nI x5) (by omega) (by omega) e5 dL_law_131 ?_
        have hPc := hP.sub (ws' := [(t0, .inr (0, [.ref aw, .int (nI n), .int (nI lim), .ref as, .ref an, .ref ax])), (aw, .inl (dA, 32, .inl fw))]) [0, 1] rfl
        have hDc := hD.sub (ws' := [(t0, .inr (0, [.ref aw, .int (nI n), .int (nI lim), .ref as, .ref an, .ref ax])), (aw, .inl (dA, 32, .inl fw))]) [0, 1] (by decide) rfl
        have hFc := va_free (wc := [(t0, .inr (0, [.ref aw, .int (nI n), .int (nI lim), .ref as, .ref an, .ref ax])), (aw, .inl (dA, 32, .inl fw))]) hD hS hA [0, 1] rfl
        refine va_callv (va_runV (As := [.int (nI x1), .int (nI x2), .int (nI x3), .int (nI x4), .int (nI x5)]) (rest := []) ⟨hx, hb, hml, hown, hts⟩ (met_wt0 l D dA dL t0 aw x1 x2 x3 x4 x5 fw (.int (nI n)) (.int (nI lim)) (.ref as) (.ref an) (.ref ax) H.size) (cwV 5 hts (lw_V q67 q68 q69 q1 q70) rfl rfl rfl (by decide +kernel) ⟨Nat.le_of_ble_eq_true rfl, Nat.le_of_ble_eq_true rfl⟩) ⟨tc_blind, va_recv hK hPc (ci := 0) (q0 := 0) rfl rfl, tc_pre hPc hK hDc⟩ rfl rfl hl.1 rfl (lv_room (Nat.le_of_ble_eq_true rfl)) dL_law_132 ⟨by show _ ≤ 600000; omega, by show _ ≤ 7290000; omega⟩) hS (fun q _ h => hFc q h) hFc (fun u t9 H1 locs ht hvm hw hB hz1 hk1 hS => ?_)
        obtain ⟨hP1, -, hD1⟩ := hB
        rw [ht] at hP1
        obtain ⟨hP, hD⟩ := va_join (wr := [(as, .inr (1, [.ref ao, .ref au])), (ao, .inl (dA, 32, .inl fs)), (au, .inl (dL, 33, .inr (.inl gs))), (an, .inr (2, [.ref anc])), (anc, .inl (dL, 1089, .inr (.inl gn))), (ax, .inr (2, [.ref axc])), (axc, .inl (dL, 1089, .inr (.inl gx))), (m0, .inr (3, [.ref mw, .int (nI n), .int (nI lim), .ref mb, .ref mn, .ref mo])), (mw, .inl (dA, 32, .inl fw)), (mb, .inl (dL, 289, .inr (.inl bs))), (mn, .inl (dL, 289, .inr (.inl ys))), (mo, .inl (dA, 32, .inl os))]) (w1 := [(t0, .inr (0, [.ref aw, .int (nI n), .int (nI lim), .ref as, .ref an, .ref ax])), (aw, .inl (dA, 32, .inl (tc_wset fw x1 x2 x3 x4 x5)))]) hP hD [0, 1] [2, 3, 4, 5, 6, 7, 8, 9, 10, 11, 12, 13] rfl rfl (by decide) (by decide) hk1 hFc hP1 hD1
        generalize H1 = H at hP hS ⊢
        have hP : va_P D vwCl [(t0, .inr (0, [.ref aw, .int (nI n), .int (nI lim), .ref as, .ref an, .ref ax])), (aw, .inl (dA, 32, .inl (tc_wset fw x1 x2 x3 x4 x5))), (as, .inr (1, [.ref ao, .ref au])), (ao, .inl (dA, 32, .inl fs)), (au, .inl (dL, 33, .inr (.inl gs))), (an, .inr (2, [.ref anc])), (anc, .inl (dL, 1089, .inr (.inl gn))), (ax, .inr (2, [.ref axc])), (axc, .inl (dL, 1089, .inr (.inl gx))), (m0, .inr (3, [.ref mw, .int (nI n), .int (nI lim), .ref mb, .ref mn, .ref mo])), (mw, .inl (dA, 32, .inl fw)), (mb, .inl (dL, 289, .inr (.inl bs))), (mn, .inl (dL, 289, .inr (.inl ys))), (mo, .inl (dA, 32, .inl os))] H := hP.sub [12, 13, 0, 1, 2, 3, 4, 5, 6, 7, 8, 9, 10, 11] rfl
        have hD : va_D (fun q : Nat => s.heap.size ≤ q) [(t0, .inr (0, [.ref aw, .int (nI n), .int (nI lim), .ref as, .ref an, .ref ax])), (aw, .inl (dA, 32, .inl (tc_wset fw x1 x2 x3 x4 x5))), (as, .inr (1, [.ref ao, .ref au])), (ao, .inl (dA, 32, .inl fs)), (au, .inl (dL, 33, .inr (.inl gs))), (an, .inr (2, [.ref anc])), (anc, .inl (dL, 1089, .inr (.inl gn))), (ax, .inr (2, [.ref axc])), (axc, .inl (dL, 1089, .inr (.inl gx))), (m0, .inr (3, [.ref mw, .int (nI n), .int (nI lim), .ref mb, .ref mn, .ref mo])), (mw, .inl (dA, 32, .inl fw)), (mb, .inl (dL, 289, .inr (.inl bs))), (mn, .inl (dL, 289, .inr (.inl ys))), (mo, .inl (dA, 32, .inl os))] := hD.sub [12, 13, 0, 1, 2, 3, 4, 5, 6, 7, 8, 9, 10, 11] (by decide) rfl
        refine W.widen (k := 14) (n := 2933) (Nat.le_refl _) (Nat.le_refl _) ?_
        refine lv_aload_n hx hb dL_law_135 rfl (lv_at hl 2 rfl) ?_
        refine lv_aload_n hx hb dL_law_136 rfl (lv_at hl 0 rfl) ?_
        refine lv_iload_n hx hb dL_law_137 rfl (lv_at hl 3 rfl) ?_
        refine lv_iconst (v := nI 1) hx hb dL_law_138 (by decide) ?_
        refine tc_iadd hx hb dL_law_139 ?_
        refine tc_sld hx hb hX hbl hbA hS (nI x1) (by omega) (by omega) e1 dL_law_140 ?_
        refine lv_aload_n hx hb dL_law_141 rfl (lv_at hl 0 rfl) ?_
        refine lv_iload_n hx hb dL_law_142 rfl (lv_at hl 3 rfl) ?_
        refine lv_iconst (v := nI 2) hx hb dL_law_143 (by decide) ?_
        refine tc_iadd hx hb dL_law_144 ?_
        refine tc_sld hx hb hX hbl hbA hS (nI x2) (by omega) (by omega) e2 dL_law_145 ?_
        refine lv_aload_n hx hb dL_law_146 rfl (lv_at hl 0 rfl) ?_
        refine lv_iload_n hx hb dL_law_147 rfl (lv_at hl 3 rfl) ?_
        refine lv_iconst (v := nI 3) hx hb dL_law_148 (by decide) ?_
        refine tc_iadd hx hb dL_law_149 ?_
        refine tc_sld hx hb hX hbl hbA hS (nI x3) (by omega) (by omega) e3 dL_law_150 ?_
        refine lv_aload_n hx hb dL_law_151 rfl (lv_at hl 0 rfl) ?_
        refine lv_iload_n hx hb dL_law_152 rfl (lv_at hl 3 rfl) ?_
        refine lv_iconst (v := nI 4) hx hb dL_law_153 (by decide) ?_
        refine tc_iadd hx hb dL_law_154 ?_
        refine tc_sld hx hb hX hbl hbA hS (nI x4) (by omega) (by omega) e4 dL_law_155 ?_
        refine lv_aload_n hx hb dL_law_156 rfl (lv_at hl 0 rfl) ?_
        refine lv_iload_n hx hb dL_law_157 rfl (lv_at hl 3 rfl) ?_
        refine lv_iconst (v := nI 5) hx hb dL_law_158 (by decide) ?_
        refine tc_iadd hx hb dL_law_159 ?_
        refine tc_sld hx hb hX hbl hbA hS (nI x5) (by omega) (by omega) e5 dL_law_160 ?_
        have hPc := hP.sub (ws' := [(m0, .inr (3, [.ref mw, .int (nI n), .int (nI lim), .ref mb, .ref mn, .ref mo])), (mw, .inl (dA, 32, .inl fw))]) [9, 10] rfl
        have hDc := hD.sub (ws' := [(m0, .inr (3, [.ref mw, .int (nI n), .int (nI lim), .ref mb, .ref mn, .ref mo])), (mw, .inl (dA, 32, .inl fw))]) [9, 10] (by decide) rfl
        have hFc := va_free (wc := [(m0, .inr (3, [.ref mw, .int (nI n), .int (nI lim), .ref mb, .ref mn, .ref mo])), (mw, .inl (dA, 32, .inl fw))]) hD hS hA [9, 10] rfl
        refine va_callv (va_runV (As := [.int (nI x1), .int (nI x2), .int (nI x3), .int (nI x4), .int (nI x5)]) (rest := []) ⟨hx, hb, hml, hown, hts⟩ (met_wt3 l D dA dL m0 mw x1 x2 x3 x4 x5 fw (.int (nI n)) (.int (nI lim)) (.ref mb) (.ref mn) (.ref mo) H.size) (cwV 5 hts (lw_V q145 q146 q147 q4 q148) rfl rfl rfl (by decide +kernel) ⟨Nat.le_of_ble_eq_true rfl, Nat.le_of_ble_eq_true rfl⟩) ⟨tc_blind, va_recv hK hPc (ci := 3) (q0 := 0) rfl rfl, tc_pre hPc hK hDc⟩ rfl rfl hl.1 rfl (lv_room (Nat.le_of_ble_eq_true rfl)) dL_law_161 ⟨by show _ ≤ 600000; omega, by show _ ≤ 7290000; omega⟩) hS (fun q _ h => hFc q h) hFc (fun u t9 H1 locs ht hvm hw hB hz1 hk1 hS => ?_)
        obtain ⟨hP1, -, hD1⟩ := hB
        rw [ht] at hP1
        obtain ⟨hP, hD⟩ := va_join (wr := [(t0, .inr (0, [.ref aw, .int (nI n), .int (nI lim), .ref as, .ref an, .ref ax])), (aw, .inl (dA, 32, .inl (tc_wset fw x1 x2 x3 x4 x5))), (as, .inr (1, [.ref ao, .ref au])), (ao, .inl (dA, 32, .inl fs)), (au, .inl (dL, 33, .inr (.inl gs))), (an, .inr (2, [.ref anc])), (anc, .inl (dL, 1089, .inr (.inl gn))), (ax, .inr (2, [.ref axc])), (axc, .inl (dL, 1089, .inr (.inl gx))), (mb, .inl (dL, 289, .inr (.inl bs))), (mn, .inl (dL, 289, .inr (.inl ys))), (mo, .inl (dA, 32, .inl os))]) (w1 := [(m0, .inr (3, [.ref mw, .int (nI n), .int (nI lim), .ref mb, .ref mn, .ref mo])), (mw, .inl (dA, 32, .inl (tc_wset fw x1 x2 x3 x4 x5)))]) hP hD [9, 10] [0, 1, 2, 3, 4, 5, 6, 7, 8, 11, 12, 13] rfl rfl (by decide) (by decide) hk1 hFc hP1 hD1
        generalize H1 = H at hP hS ⊢
        have hP : va_P D vwCl [(t0, .inr (0, [.ref aw, .int (nI n), .int (nI lim), .ref as, .ref an, .ref ax])), (aw, .inl (dA, 32, .inl (tc_wset fw x1 x2 x3 x4 x5))), (as, .inr (1, [.ref ao, .ref au])), (ao, .inl (dA, 32, .inl fs)), (au, .inl (dL, 33, .inr (.inl gs))), (an, .inr (2, [.ref anc])), (anc, .inl (dL, 1089, .inr (.inl gn))), (ax, .inr (2, [.ref axc])), (axc, .inl (dL, 1089, .inr (.inl gx))), (m0, .inr (3, [.ref mw, .int (nI n), .int (nI lim), .ref mb, .ref mn, .ref mo])), (mw, .inl (dA, 32, .inl (tc_wset fw x1 x2 x3 x4 x5))), (mb, .inl (dL, 289, .inr (.inl bs))), (mn, .inl (dL, 289, .inr (.inl ys))), (mo, .inl (dA, 32, .inl os))] H := hP.sub [0, 1, 2, 3, 4, 5, 6, 7, 8, 12, 13, 9, 10, 11] rfl
        have hD : va_D (fun q : Nat => s.heap.size ≤ q) [(t0, .inr (0, [.ref aw, .int (nI n), .int (nI lim), .ref as, .ref an, .ref ax])), (aw, .inl (dA, 32, .inl (tc_wset fw x1 x2 x3 x4 x5))), (as, .inr (1, [.ref ao, .ref au])), (ao, .inl (dA, 32, .inl fs)), (au, .inl (dL, 33, .inr (.inl gs))), (an, .inr (2, [.ref anc])), (anc, .inl (dL, 1089, .inr (.inl gn))), (ax, .inr (2, [.ref axc])), (axc, .inl (dL, 1089, .inr (.inl gx))), (m0, .inr (3, [.ref mw, .int (nI n), .int (nI lim), .ref mb, .ref mn, .ref mo])), (mw, .inl (dA, 32, .inl (tc_wset fw x1 x2 x3 x4 x5))), (mb, .inl (dL, 289, .inr (.inl bs))), (mn, .inl (dL, 289, .inr (.inl ys))), (mo, .inl (dA, 32, .inl os))] := hD.sub [0, 1, 2, 3, 4, 5, 6, 7, 8, 12, 13, 9, 10, 11] (by decide) rfl
        refine W.widen (k := 14) (n := 2933) (Nat.le_refl _) (Nat.le_refl _) ?_
        refine lv_goto (tgt := 181) hx hb dL_law_164 (by decide) ?_
        refine lv_iinc (v := (nI (i + 6))) (lv' := [(3, .int (nI (i + 6))), (0, .ref b), (1, .ref t0), (2, .ref m0)]) hx hb dL_law_181 hl (k := 3) rfl (nI_add _ 6) (by decide) rfl (fun ls hl => ?_)
        refine lv_goto (tgt := 18) hx hb dL_law_184 (by decide) ?_
        exact ih (i + 6) (by omega) (by omega) t0 aw as ao au an anc ax axc m0 mw mb mn mo n lim (tc_wset fw x1 x2 x3 x4 x5) fs os gs gn gx bs ys hn2 hn hlim (tc_pos_w hpos) hg H locs ls hP hD hS (lv_sub hl [1, 2, 3, 0] rfl)
      ·
        refine tc_toi (nI 3) (congrArg nI h4) ?_
        refine lv_tableIn (off := 135) (tgt := 167) hx hb dL_law_32 (by decide) (by decide) rfl (by decide) ?_
        refine lv_aload_n hx hb dL_law_167 rfl (lv_at hl 1 rfl) ?_
        have hPc := hP.sub (ws' := [(t0, .inr (0, [.ref aw, .int (nI n), .int (nI lim), .ref as, .ref an, .ref ax])), (aw, .inl (dA, 32, .inl fw)), (as, .inr (1, [.ref ao, .ref au])), (ao, .inl (dA, 32, .inl fs)), (au, .inl (dL, 33, .inr (.inl gs))), (an, .inr (2, [.ref anc])), (anc, .inl (dL, 1089, .inr (.inl gn))), (ax, .inr (2, [.ref axc])), (axc, .inl (dL, 1089, .inr (.inl gx)))]) [0, 1, 2, 3, 4, 5, 6, 7, 8] rfl
        have hDc := hD.sub (ws' := [(t0, .inr (0, [.ref aw, .int (nI n), .int (nI lim), .ref as, .ref an, .ref ax])), (aw, .inl (dA, 32, .inl fw)), (as, .inr (1, [.ref ao, .ref au])), (ao, .inl (dA, 32, .inl fs)), (au, .inl (dL, 33, .inr (.inl gs))), (an, .inr (2, [.ref anc])), (anc, .inl (dL, 1089, .inr (.inl gn))), (ax, .inr (2, [.ref axc])), (axc, .inl (dL, 1089, .inr (.inl gx)))]) [0, 1, 2, 3, 4, 5, 6, 7, 8] (by decide) rfl
        have hFc := va_free (wc := [(t0, .inr (0, [.ref aw, .int (nI n), .int (nI lim), .ref as, .ref an, .ref ax])), (aw, .inl (dA, 32, .inl fw)), (as, .inr (1, [.ref ao, .ref au])), (ao, .inl (dA, 32, .inl fs)), (au, .inl (dL, 33, .inr (.inl gs))), (an, .inr (2, [.ref anc])), (anc, .inl (dL, 1089, .inr (.inl gn))), (ax, .inr (2, [.ref axc])), (axc, .inl (dL, 1089, .inr (.inl gx)))]) hD hS hA [0, 1, 2, 3, 4, 5, 6, 7, 8] rfl
        refine va_calll (va_runV (As := []) (rest := []) ⟨hx, hb, hml, hown, hts⟩ (met_least0 l D dA dL t0 aw as ao au an anc ax axc n lim fw fs gs gn gx (fun i => (fw i).toNatClampNeg) H.size hn2 hn hlim hpos hg) (cwV 0 hts (lw_V q71 q72 q73 q1 q74) rfl rfl rfl (by decide +kernel) ⟨Nat.le_of_ble_eq_true rfl, Nat.le_of_ble_eq_true rfl⟩) ⟨tc_blind, va_recv hK hPc (ci := 0) (q0 := 0) rfl rfl, tc_pre hPc hK hDc⟩ rfl rfl hl.1 rfl (lv_room (Nat.le_of_ble_eq_true rfl)) dL_law_168 ⟨by show _ ≤ 600000; omega, by show _ ≤ 7290000; omega⟩) hS (fun q _ h => hFc q h) hFc (fun r1 u t9 H1 locs ht hvm hr1 hB hz1 hk1 hS => ?_)
        obtain ⟨fs2, gs2, an2, anc2, ax2, axc2, gn2, gx2, hg2, hB⟩ := hB
        obtain ⟨hP1, -, hD1⟩ := hB
        rw [ht] at hP1
        obtain ⟨hP, hD⟩ := va_join (wr := [(m0, .inr (3, [.ref mw, .int (nI n), .int (nI lim), .ref mb, .ref mn, .ref mo])), (mw, .inl (dA, 32, .inl fw)), (mb, .inl (dL, 289, .inr (.inl bs))), (mn, .inl (dL, 289, .inr (.inl ys))), (mo, .inl (dA, 32, .inl os))]) (w1 := [(t0, .inr (0, [.ref aw, .int (nI n), .int (nI lim), .ref as, .ref an2, .ref ax2])), (aw, .inl (dA, 32, .inl fw)), (as, .inr (1, [.ref ao, .ref au])), (ao, .inl (dA, 32, .inl fs2)), (au, .inl (dL, 33, .inr (.inl gs2))), (an2, .inr (2, [.ref anc2])), (anc2, .inl (dL, 1089, .inr (.inl gn2))), (ax2, .inr (2, [.ref axc2])), (axc2, .inl (dL, 1089, .inr (.inl gx2)))]) hP hD [0, 1, 2, 3, 4, 5, 6, 7, 8] [9, 10, 11, 12, 13] rfl rfl (by decide) (by decide) hk1 hFc hP1 hD1
        generalize H1 = H at hP hS ⊢
        have hP : va_P D vwCl [(t0, .inr (0, [.ref aw, .int (nI n), .int (nI lim), .ref as, .ref an2, .ref ax2])), (aw, .inl (dA, 32, .inl fw)), (as, .inr (1, [.ref ao, .ref au])), (ao, .inl (dA, 32, .inl fs2)), (au, .inl (dL, 33, .inr (.inl gs2))), (an2, .inr (2, [.ref anc2])), (anc2, .inl (dL, 1089, .inr (.inl gn2))), (ax2, .inr (2, [.ref axc2])), (axc2, .inl (dL, 1089, .inr (.inl gx2))), (m0, .inr (3, [.ref mw, .int (nI n), .int (nI lim), .ref mb, .ref mn, .ref mo])), (mw, .inl (dA, 32, .inl fw)), (mb, .inl (dL, 289, .inr (.inl bs))), (mn, .inl (dL, 289, .inr (.inl ys))), (mo, .inl (dA, 32, .inl os))] H := hP.sub [5, 6, 7, 8, 9, 10, 11, 12, 13, 0, 1, 2, 3, 4] rfl
        have hD : va_D (fun q : Nat => s.heap.size ≤ q) [(t0, .inr (0, [.ref aw, .int (nI n), .int (nI lim), .ref as, .ref an2, .ref ax2])), (aw, .inl (dA, 32, .inl fw)), (as, .inr (1, [.ref ao, .ref au])), (ao, .inl (dA, 32, .inl fs2)), (au, .inl (dL, 33, .inr (.inl gs2))), (an2, .inr (2, [.ref anc2])), (anc2, .inl (dL, 1089, .inr (.inl gn2))), (ax2, .inr (2, [.ref axc2])), (axc2, .inl (dL, 1089, .inr (.inl gx2))), (m0, .inr (3, [.ref mw, .int (nI n), .int (nI lim), .ref mb, .ref mn, .ref mo])), (mw, .inl (dA, 32, .inl fw)), (mb, .inl (dL, 289, .inr (.inl bs))), (mn, .inl (dL, 289, .inr (.inl ys))), (mo, .inl (dA, 32, .inl os))] := hD.sub [5, 6, 7, 8, 9, 10, 11, 12, 13, 0, 1, 2, 3, 4] (by decide) rfl
        refine W.widen (k := 14) (n := 2933) (Nat.le_refl _) (Nat.le_refl _) ?_
        refine lv_aload_n hx hb dL_law_171 rfl (lv_at hl 2 rfl) ?_
        have hPc := hP.sub (ws' := [(m0, .inr (3, [.ref mw, .int (nI n), .int (nI lim), .ref mb, .ref mn, .ref mo])), (mw, .inl (dA, 32, .inl fw)), (mb, .inl (dL, 289, .inr (.inl bs))), (mn, .inl (dL, 289, .inr (.inl ys))), (mo, .inl (dA, 32, .inl os))]) [9, 10, 11, 12, 13] rfl
        have hDc := hD.sub (ws' := [(m0, .inr (3, [.ref mw, .int (nI n), .int (nI lim), .ref mb, .ref mn, .ref mo])), (mw, .inl (dA, 32, .inl fw)), (mb, .inl (dL, 289, .inr (.inl bs))), (mn, .inl (dL, 289, .inr (.inl ys))), (mo, .inl (dA, 32, .inl os))]) [9, 10, 11, 12, 13] (by decide) rfl
        have hFc := va_free (wc := [(m0, .inr (3, [.ref mw, .int (nI n), .int (nI lim), .ref mb, .ref mn, .ref mo])), (mw, .inl (dA, 32, .inl fw)), (mb, .inl (dL, 289, .inr (.inl bs))), (mn, .inl (dL, 289, .inr (.inl ys))), (mo, .inl (dA, 32, .inl os))]) hD hS hA [9, 10, 11, 12, 13] rfl
        refine va_calll (va_runV (As := []) (rest := [.long r1]) ⟨hx, hb, hml, hown, hts⟩ (met_least3 l D dA dL m0 mw mb mn mo n lim fw os bs ys (fun i => (fw i).toNatClampNeg) H.size hn2 hn hlim hpos) (cwV 0 hts (lw_V q149 q150 q151 q4 q152) rfl rfl rfl (by decide +kernel) ⟨Nat.le_of_ble_eq_true rfl, Nat.le_of_ble_eq_true rfl⟩) ⟨tc_blind, va_recv hK hPc (ci := 3) (q0 := 0) rfl rfl, tc_pre hPc hK hDc⟩ rfl rfl hl.1 rfl (lv_room (Nat.le_of_ble_eq_true rfl)) dL_law_172 ⟨by show _ ≤ 600000; omega, by show _ ≤ 7290000; omega⟩) hS (fun q _ h => hFc q h) hFc (fun r2 u t9 H1 locs ht hvm hr2 hB hz1 hk1 hS => ?_)
        obtain ⟨bs2, ys2, os2, hB⟩ := hB
        obtain ⟨hP1, -, hD1⟩ := hB
        rw [ht] at hP1
        obtain ⟨hP, hD⟩ := va_join (wr := [(t0, .inr (0, [.ref aw, .int (nI n), .int (nI lim), .ref as, .ref an2, .ref ax2])), (aw, .inl (dA, 32, .inl fw)), (as, .inr (1, [.ref ao, .ref au])), (ao, .inl (dA, 32, .inl fs2)), (au, .inl (dL, 33, .inr (.inl gs2))), (an2, .inr (2, [.ref anc2])), (anc2, .inl (dL, 1089, .inr (.inl gn2))), (ax2, .inr (2, [.ref axc2])), (axc2, .inl (dL, 1089, .inr (.inl gx2)))]) (w1 := [(m0, .inr (3, [.ref mw, .int (nI n), .int (nI lim), .ref mb, .ref mn, .ref mo])), (mw, .inl (dA, 32, .inl fw)), (mb, .inl (dL, 289, .inr (.inl bs2))), (mn, .inl (dL, 289, .inr (.inl ys2))), (mo, .inl (dA, 32, .inl os2))]) hP hD [9, 10, 11, 12, 13] [0, 1, 2, 3, 4, 5, 6, 7, 8] rfl rfl (by decide) (by decide) hk1 hFc hP1 hD1
        generalize H1 = H at hP hS ⊢
        have hP : va_P D vwCl [(t0, .inr (0, [.ref aw, .int (nI n), .int (nI lim), .ref as, .ref an2, .ref ax2])), (aw, .inl (dA, 32, .inl fw)), (as, .inr (1, [.ref ao, .ref au])), (ao, .inl (dA, 32, .inl fs2)), (au, .inl (dL, 33, .inr (.inl gs2))), (an2, .inr (2, [.ref anc2])), (anc2, .inl (dL, 1089, .inr (.inl gn2))), (ax2, .inr (2, [.ref axc2])), (axc2, .inl (dL, 1089, .inr (.inl gx2))), (m0, .inr (3, [.ref mw, .int (nI n), .int (nI lim), .ref mb, .ref mn, .ref mo])), (mw, .inl (dA, 32, .inl fw)), (mb, .inl (dL, 289, .inr (.inl bs2))), (mn, .inl (dL, 289, .inr (.inl ys2))), (mo, .inl (dA, 32, .inl os2))] H := hP.sub [0, 1, 2, 3, 4, 5, 6, 7, 8, 9, 10, 11, 12, 13] rfl
        have hD : va_D (fun q : Nat => s.heap.size ≤ q) [(t0, .inr (0, [.ref aw, .int (nI n), .int (nI lim), .ref as, .ref an2, .ref ax2])), (aw, .inl (dA, 32, .inl fw)), (as, .inr (1, [.ref ao, .ref au])), (ao, .inl (dA, 32, .inl fs2)), (au, .inl (dL, 33, .inr (.inl gs2))), (an2, .inr (2, [.ref anc2])), (anc2, .inl (dL, 1089, .inr (.inl gn2))), (ax2, .inr (2, [.ref axc2])), (axc2, .inl (dL, 1089, .inr (.inl gx2))), (m0, .inr (3, [.ref mw, .int (nI n), .int (nI lim), .ref mb, .ref mn, .ref mo])), (mw, .inl (dA, 32, .inl fw)), (mb, .inl (dL, 289, .inr (.inl bs2))), (mn, .inl (dL, 289, .inr (.inl ys2))), (mo, .inl (dA, 32, .inl os2))] := hD.sub [0, 1, 2, 3, 4, 5, 6, 7, 8, 9, 10, 11, 12, 13] (by decide) rfl
        refine W.widen (k := 14) (n := 2933) (Nat.le_refl _) (Nat.le_refl _) ?_
        refine tc_lcmp_eq hx hb 181 dL_law_175 dL_law_176 (by decide) (fun _ => ?_) (fun c9 => absurd (hr1.trans hr2.symm) c9)
        refine lv_iinc (v := (nI (i + 6))) (lv' := [(3, .int (nI (i + 6))), (0, .ref b), (1, .ref t0), (2, .ref m0)]) hx hb dL_law_181 hl (k := 3) rfl (nI_add _ 6) (by decide) rfl (fun ls hl => ?_)
        refine lv_goto (tgt := 18) hx hb dL_law_184 (by decide) ?_
        exact ih (i + 6) (by omega) (by omega) t0 aw as ao au an2 anc2 ax2 axc2 m0 mw mb mn mo n lim fw fs2 os2 gs2 gn2 gx2 bs2 ys2 hn2 hn hlim hpos hg2 H locs ls hP hD hS (lv_sub hl [1, 2, 3, 0] rfl)
set_option maxHeartbeats 4000000 in
set_option maxRecDepth 100000 in
theorem whole_start {p : Program} {e : Env} {s : State} {m : MethodId} {below : List Frame} {meth : Method} {c : Code} (l : Launch) {b L : Nat} {xs : Nat → Int32} (hL : L ≤ 384) (C0 : lw_At p s m meth c b L xs) : W p l e room_1 s m #[Value.ref b] below meth c s.heap [] 0 0 (lw_Z below #[Value.ref b] s) (entryFrame m ([Value.ref b] : List Value).toArray 4) := by
  obtain ⟨hx, hb, hr, hml, hown, hts0, hX, hbl, hlocks, hgv⟩ := id C0
  have hts : ∀ w ∈ lw_all, w.before #[Value.ref b] s = true := fun w h => hts0 w (lw_all_tbl h)
  have hA : ∀ q : Nat, s.heap.size ≤ q → (fun q : Nat => s.heap.size ≤ q) q := fun _ h => h
  obtain ⟨c0, iS0, hKn0⟩ := u_known (C := RX0) (T := TX0) (N := 6) (n := 6) hts in_X0 (hts _ q7)
  obtain ⟨c1, iS1, hKn1⟩ := u_known (C := RX1) (T := TX1) (N := 2) (n := 2) hts in_X1 (hts _ q15)
  obtain ⟨c2, iS2, hKn2⟩ := u_known (C := RX2) (T := TX2) (N := 1) (n := 1) hts in_X2 (hts _ q30)
  obtain ⟨c3, iS3, hKn3⟩ := u_known (C := RX3) (T := TX3) (N := 6) (n := 6) hts in_X3 (hts _ q112)
  obtain ⟨D, hKc⟩ : ∃ D : va_G, ∀ (k : Nat) (q : vw_C), vwCl[k]? = some q → u_Kn s q.1 q.2.1 q.2.2 (D.1 k) (D.2 k) := by
    refine ⟨(fun k => if k = 0 then c0 else if k = 1 then c1 else if k = 2 then c2 else c3, fun k => if k = 0 then iS0 else if k = 1 then iS1 else if k = 2 then iS2 else iS3), ?_⟩
    intro k q hq
    match k, hq with
    | 0, hq => cases hq; exact hKn0
    | 1, hq => cases hq; exact hKn1
    | 2, hq => cases hq; exact hKn2
    | 3, hq => cases hq; exact hKn3
    | k + 4, hq => simp [vwCl] at hq
  obtain ⟨dA, dL, hK⟩ := tc_arrays (D := D) (cl := vwCl) (hts _ q27) (hts _ q28) ⟨hKc, fun k q h => by simp at h⟩
  have hS : va_S (fun q : Nat => s.heap.size ≤ q) s.heap s.heap [] := va_S.rf
  have hP : va_P D vwCl [] s.heap := fun k q h => by simp at h
  have hD : va_D (fun q : Nat => s.heap.size ≤ q) [] := ⟨fun i j p q h => by simp at h, fun k q h => by simp at h⟩
  have hN1 : va_Nw (.methodLinkNest RX0 24 yX1_init "TrimCodes") s := va_Nw.of rfl (hts0 _ q16)
  have hN2 : va_Nw (.methodLinkNest RX0 31 yX2_init "TrimCodes") s := va_Nw.of rfl (hts0 _ q31)
  have hl := lv_entry ([.ref b]) (n := 4) (Nat.le_of_ble_eq_true rfl)
  rw [lg_entry_eq]
  generalize (lg_sl ([.ref b]) ++ List.replicate (4 - (lg_sl ([.ref b])).length) Slot.unset).toArray = ls at hl ⊢
  have hl : lv_has ls 4 [(0, .ref b)] := hl
  refine va_new (ci := 0) (fs := [.null, .int 0, .int 0, .null, .null, .null]) (C := RX0) (T := TX0) (N := 6) hx hb hts in_X0 tyX0 tyX0_ok hown (hts _ q6) (hts _ q7) (hts _ q1) hK hP hD hS hA rfl (fun j hj => by rcases (show j = 0 ∨ j = 1 ∨ j = 2 ∨ j = 3 ∨ j = 4 ∨ j = 5 by omega) with rfl | rfl | rfl | rfl | rfl | rfl <;> rfl) (by show _ ≤ 600000; omega) (by show _ ≤ 7290000; omega) dL_law_0 (fun t0 H hP hD hS => ?_)
  have hP : va_P D vwCl [(t0, .inr (0, [.null, .int 0, .int 0, .null, .null, .null]))] H := hP
  have hD : va_D (fun q : Nat => s.heap.size ≤ q) [(t0, .inr (0, [.null, .int 0, .int 0, .null, .null, .null]))] := hD
  refine lv_dup hx hb dL_law_3 rfl ?_
  have hPc := hP.sub (ws' := [(t0, .inr (0, [.null, .int 0, .int 0, .null, .null, .null]))]) [0] rfl
  have hDc := hD.sub (ws' := [(t0, .inr (0, [.null, .int 0, .int 0, .null, .null, .null]))]) [0] (by decide) rfl
  have hFc := va_free (wc := [(t0, .inr (0, [.null, .int 0, .int 0, .null, .null, .null]))]) hD hS hA [0] rfl
  refine va_callv (va_runI (As := []) (rest := [.ref t0]) ⟨hx, hb, hml, hown, hts⟩ (met_init0 l D dA dL t0 H.size) (cwI 0 hts (lw_meth q10) rfl rfl rfl (hts _ q1) (hts _ q8) (hts _ q9) rfl (by decide +kernel) ⟨Nat.le_of_ble_eq_true rfl, Nat.le_of_ble_eq_true rfl⟩) ⟨tc_blindN rfl rfl, fun U hU hW => ⟨rfl, (tc_pre (av := [.ref t0]) hPc hK hDc U hU hW).2, va_Nw.warmM hW hN1, va_Nw.warmM hW hN2⟩⟩ rfl rfl hl.1 rfl (lv_room (Nat.le_of_ble_eq_true rfl)) dL_law_4 ⟨by show _ ≤ 600000; omega, by show _ ≤ 7290000; omega⟩) hS (fun q _ h => hFc q h) hFc (fun u t9 H1 locs ht hvm hw hB hz1 hk1 hS => ?_)
  obtain ⟨aw, as, ao, au, an, anc, ax, axc, hB⟩ := hB
  obtain ⟨hP1, -, hD1⟩ := hB
  rw [ht] at hP1
  obtain ⟨hP, hD⟩ := va_join (wr := []) (w1 := [(t0, .inr (0, [.ref aw, .int (nI 2), .int (nI 5), .ref as, .ref an, .ref ax])), (aw, .inl (dA, 32, .inl (fun _ => 0))), (as, .inr (1, [.ref ao, .ref au])), (ao, .inl (dA, 32, .inl (fun _ => 0))), (au, .inl (dL, 33, .inr (.inl (fun _ => 0)))), (an, .inr (2, [.ref anc])), (anc, .inl (dL, 1089, .inr (.inl (fun _ => 0)))), (ax, .inr (2, [.ref axc])), (axc, .inl (dL, 1089, .inr (.inl (fun _ => 0))))]) hP hD [0] [] rfl rfl (by decide) (by decide) hk1 hFc hP1 hD1
  generalize H1 = H at hP hS ⊢
  have hP : va_P D vwCl [(t0, .inr (0, [.ref aw, .int (nI 2), .int (nI 5), .ref as, .ref an, .ref ax])), (aw, .inl (dA, 32, .inl (fun _ => 0))), (as, .inr (1, [.ref ao, .ref au])), (ao, .inl (dA, 32, .inl (fun _ => 0))), (au, .inl (dL, 33, .inr (.inl (fun _ => 0)))), (an, .inr (2, [.ref anc])), (anc, .inl (dL, 1089, .inr (.inl (fun _ => 0)))), (ax, .inr (2, [.ref axc])), (axc, .inl (dL, 1089, .inr (.inl (fun _ => 0))))] H := hP.sub [0, 1, 2, 3, 4, 5, 6, 7, 8] rfl
  have hD : va_D (fun q : Nat => s.heap.size ≤ q) [(t0, .inr (0, [.ref aw, .int (nI 2), .int (nI 5), .ref as, .ref an, .ref ax])), (aw, .inl (dA, 32, .inl (fun _ => 0))), (as, .inr (1, [.ref ao, .ref au])), (ao, .inl (dA, 32, .inl (fun _ => 0))), (au, .inl (dL, 33, .inr (.inl (fun _ => 0)))), (an, .inr (2, [.ref anc])), (anc, .inl (dL, 1089, .inr (.inl (fun _ => 0)))), (ax, .inr (2, [.ref axc])), (axc, .inl (dL, 1089, .inr (.inl (fun _ => 0))))] := hD.sub [0, 1, 2, 3, 4, 5, 6, 7, 8] (by decide) rfl
  refine lv_astore_n (lv' := [(1, .ref t0), (0, .ref b)]) hx hb dL_law_7 rfl hl (by decide) rfl (fun ls hl => ?_)
  refine va_new (ci := 3) (fs := [.null, .int 0, .int 0, .null, .null, .null]) (C := RX3) (T := TX3) (N := 6) hx hb hts in_X3 tyX3 tyX3_ok hown (hts _ q111) (hts _ q112) (hts _ q4) hK hP hD hS hA rfl (fun j hj => by rcases (show j = 0 ∨ j = 1 ∨ j = 2 ∨ j = 3 ∨ j = 4 ∨ j = 5 by omega) with rfl | rfl | rfl | rfl | rfl | rfl <;> rfl) (by show _ ≤ 600000; omega) (by show _ ≤ 7290000; omega) dL_law_8 (fun m0 H hP hD hS => ?_)
  have hP : va_P D vwCl [(t0, .inr (0, [.ref aw, .int (nI 2), .int (nI 5), .ref as, .ref an, .ref ax])), (aw, .inl (dA, 32, .inl (fun _ => 0))), (as, .inr (1, [.ref ao, .ref au])), (ao, .inl (dA, 32, .inl (fun _ => 0))), (au, .inl (dL, 33, .inr (.inl (fun _ => 0)))), (an, .inr (2, [.ref anc])), (anc, .inl (dL, 1089, .inr (.inl (fun _ => 0)))), (ax, .inr (2, [.ref axc])), (axc, .inl (dL, 1089, .inr (.inl (fun _ => 0)))), (m0, .inr (3, [.null, .int 0, .int 0, .null, .null, .null]))] H := hP
  have hD : va_D (fun q : Nat => s.heap.size ≤ q) [(t0, .inr (0, [.ref aw, .int (nI 2), .int (nI 5), .ref as, .ref an, .ref ax])), (aw, .inl (dA, 32, .inl (fun _ => 0))), (as, .inr (1, [.ref ao, .ref au])), (ao, .inl (dA, 32, .inl (fun _ => 0))), (au, .inl (dL, 33, .inr (.inl (fun _ => 0)))), (an, .inr (2, [.ref anc])), (anc, .inl (dL, 1089, .inr (.inl (fun _ => 0)))), (ax, .inr (2, [.ref axc])), (axc, .inl (dL, 1089, .inr (.inl (fun _ => 0)))), (m0, .inr (3, [.null, .int 0, .int 0, .null, .null, .null]))] := hD
  refine lv_dup hx hb dL_law_11 rfl ?_
  have hPc := hP.sub (ws' := [(m0, .inr (3, [.null, .int 0, .int 0, .null, .null, .null]))]) [9] rfl
  have hDc := hD.sub (ws' := [(m0, .inr (3, [.null, .int 0, .int 0, .null, .null, .null]))]) [9] (by decide) rfl
  have hFc := va_free (wc := [(m0, .inr (3, [.null, .int 0, .int 0, .null, .null, .null]))]) hD hS hA [9] rfl
  refine va_callv (va_runI (As := []) (rest := [.ref m0]) ⟨hx, hb, hml, hown, hts⟩ (met_init3 l D dA dL m0 H.size) (cwI 0 hts (lw_meth q115) rfl rfl rfl (hts _ q4) (hts _ q113) (hts _ q114) rfl (by decide +kernel) ⟨Nat.le_of_ble_eq_true rfl, Nat.le_of_ble_eq_true rfl⟩) ⟨tc_blind, tc_pre hPc hK hDc⟩ rfl rfl hl.1 rfl (lv_room (Nat.le_of_ble_eq_true rfl)) dL_law_12 ⟨by show _ ≤ 600000; omega, by show _ ≤ 7290000; omega⟩) hS (fun q _ h => hFc q h) hFc (fun u t9 H1 locs ht hvm hw hB hz1 hk1 hS => ?_)
  obtain ⟨mw, mb, mn, mo, hB⟩ := hB
  obtain ⟨hP1, -, hD1⟩ := hB
  rw [ht] at hP1
  obtain ⟨hP, hD⟩ := va_join (wr := [(t0, .inr (0, [.ref aw, .int (nI 2), .int (nI 5), .ref as, .ref an, .ref ax])), (aw, .inl (dA, 32, .inl (fun _ => 0))), (as, .inr (1, [.ref ao, .ref au])), (ao, .inl (dA, 32, .inl (fun _ => 0))), (au, .inl (dL, 33, .inr (.inl (fun _ => 0)))), (an, .inr (2, [.ref anc])), (anc, .inl (dL, 1089, .inr (.inl (fun _ => 0)))), (ax, .inr (2, [.ref axc])), (axc, .inl (dL, 1089, .inr (.inl (fun _ => 0))))]) (w1 := [(m0, .inr (3, [.ref mw, .int (nI 2), .int (nI 5), .ref mb, .ref mn, .ref mo])), (mw, .inl (dA, 32, .inl (fun _ => 0))), (mb, .inl (dL, 289, .inr (.inl (fun _ => 0)))), (mn, .inl (dL, 289, .inr (.inl (fun _ => 0)))), (mo, .inl (dA, 32, .inl (fun _ => 0)))]) hP hD [9] [0, 1, 2, 3, 4, 5, 6, 7, 8] rfl rfl (by decide) (by decide) hk1 hFc hP1 hD1
  generalize H1 = H at hP hS ⊢
  have hP : va_P D vwCl [(t0, .inr (0, [.ref aw, .int (nI 2), .int (nI 5), .ref as, .ref an, .ref ax])), (aw, .inl (dA, 32, .inl (fun _ => 0))), (as, .inr (1, [.ref ao, .ref au])), (ao, .inl (dA, 32, .inl (fun _ => 0))), (au, .inl (dL, 33, .inr (.inl (fun _ => 0)))), (an, .inr (2, [.ref anc])), (anc, .inl (dL, 1089, .inr (.inl (fun _ => 0)))), (ax, .inr (2, [.ref axc])), (axc, .inl (dL, 1089, .inr (.inl (fun _ => 0)))), (m0, .inr (3, [.ref mw, .int (nI 2), .int (nI 5), .ref mb, .ref mn, .ref mo])), (mw, .inl (dA, 32, .inl (fun _ => 0))), (mb, .inl (dL, 289, .inr (.inl (fun _ => 0)))), (mn, .inl (dL, 289, .inr (.inl (fun _ => 0)))), (mo, .inl (dA, 32, .inl (fun _ => 0)))] H := hP.sub [0, 1, 2, 3, 4, 5, 6, 7, 8, 9, 10, 11, 12, 13] rfl
  have hD : va_D (fun q : Nat => s.heap.size ≤ q) [(t0, .inr (0, [.ref aw, .int (nI 2), .int (nI 5), .ref as, .ref an, .ref ax])), (aw, .inl (dA, 32, .inl (fun _ => 0))), (as, .inr (1, [.ref ao, .ref au])), (ao, .inl (dA, 32, .inl (fun _ => 0))), (au, .inl (dL, 33, .inr (.inl (fun _ => 0)))), (an, .inr (2, [.ref anc])), (anc, .inl (dL, 1089, .inr (.inl (fun _ => 0)))), (ax, .inr (2, [.ref axc])), (axc, .inl (dL, 1089, .inr (.inl (fun _ => 0)))), (m0, .inr (3, [.ref mw, .int (nI 2), .int (nI 5), .ref mb, .ref mn, .ref mo])), (mw, .inl (dA, 32, .inl (fun _ => 0))), (mb, .inl (dL, 289, .inr (.inl (fun _ => 0)))), (mn, .inl (dL, 289, .inr (.inl (fun _ => 0)))), (mo, .inl (dA, 32, .inl (fun _ => 0)))] := hD.sub [0, 1, 2, 3, 4, 5, 6, 7, 8, 9, 10, 11, 12, 13] (by decide) rfl
  refine lv_astore_n (lv' := [(2, .ref m0), (1, .ref t0), (0, .ref b)]) hx hb dL_law_15 rfl hl (by decide) rfl (fun ls hl => ?_)
  refine lv_iconst (v := nI 0) hx hb dL_law_16 (by decide) ?_
  refine lv_istore_n (lv' := [(3, .int (nI 0)), (2, .ref m0), (1, .ref t0), (0, .ref b)]) hx hb dL_law_17 rfl hl (by decide) rfl (fun ls hl => ?_)
  refine W.widen (k := 14) (n := 2933) (by omega) (by omega) ?_
  exact law_loop hL C0 hK (L + 7) 0 (by omega) (by omega) t0 aw as ao au an anc ax axc m0 mw mb mn mo 2 5 (fun _ => 0) (fun _ => 0) (fun _ => 0) (fun _ => 0) (fun _ => 0) (fun _ => 0) (fun _ => 0) (fun _ => 0) (by decide) (by decide) (by decide) tc_pos_0 rfl H locs ls hP hD hS (lv_sub hl [3, 2, 1, 0] rfl)
end
section
-- ===== YOUR PART ENDS =====
set_option maxHeartbeats 4000000 in
theorem lw_walk (l : Launch) (b : Addr) (xs : List Int32) : MetFree l x (headSpec (Jvm.Cond.code x code maxLocals ret :: tables_1) room_1) (lw_P b xs) (fun _ _ _ _ _ => True) lw_Q := by
  refine MetFree.of_bodyS (code := code) (maxLocals := maxLocals) (ret := ret) (by decide) ?_ ?_
  · intro args s m h hn
    obtain ⟨meth, c, h1, h2, h3, h4, h5, h6, -, -⟩ := Cond.code_spec hn (atoms_spec (ws := Jvm.Cond.code x code maxLocals ret :: tables_1) h _ List.mem_cons_self)
    exact ⟨meth, c, h1, h2, h3, h4, h5, h6⟩
  · intro p e s m args below meth c s₁ B hml0 hP _
    obtain ⟨rfl, hx, hbd, hgv⟩ := hP
    obtain ⟨scr, harrAt, hlist, hof, hsmall⟩ := hx
    obtain ⟨hcb, hkn, -, -⟩ := State.arrayAt?_spec harrAt
    have hown : s.vm.findClass R_law = some m.cls := findClass_of_methodNamed B.named
    have hts0 : ∀ c ∈ (Jvm.Cond.code x code maxLocals ret :: tables_1), c.before #[Value.ref b] s = true := atoms_spec (ws := Jvm.Cond.code x code maxLocals ret :: tables_1) B.pre
    have hts : ∀ w ∈ lw_tbl, w.before #[Value.ref b] s = true := k2_hts_sels lw_privs (fun w hw => hts0 w (List.mem_cons_of_mem _ hw)) lw_privs_ok
    have hml : c.maxLocals = 4 := B.maxLocals_eq (hts0 _ List.mem_cons_self)
    have X₀ : Stand p l e room_1 s m #[Value.ref b] below meth c s₁ [] 0 0 := Stand.of_body B
    have hh0 : s₁.heap = s.heap := by rw [B.state]; rfl
    have hsz : scr.slots.size = xs.length := by rw [← Array.length_toList, hlist, List.length_map]
    have hval : ∀ j : Nat, j < xs.length → scr.slots[j]? = some (.int (xs.getD j 0)) := fun j hj => by
      rw [← Array.getElem?_toList, hlist]
      simp [hj]
    have hbl : b < s.heap.size := (Array.getElem?_eq_some_iff.mp hcb).1
    have hX : va_X b xs.length (fun j => xs.getD j 0) s s.heap := ⟨scr, hcb, hof, hkn, hsz, hval⟩
    have K : W p l e room_1 s m #[Value.ref b] below meth c s₁.heap [] 0 0 (lw_Z below #[Value.ref b] s) (entryFrame m ([Value.ref b] : List Value).toArray 4) := by
      rw [hh0]
      exact whole_start l hbd ⟨B.exec, B.bytes, B.returns, hml, hown, hts, hX, hbl, B.notSynchronized, hgv⟩
    obtain ⟨t, a1, o, b1, b2, b3⟩ := K s₁ rfl X₀
    exact ⟨t, o, a1, b1, b2, b3⟩
theorem lw_pre_spec {args : Array Value} {s : State} (h : (Jvm.Cond.and given_1 narrow_1).before args s = true) (hr : rest_1_c.before args s = true) : ∃ (b : Addr) (xs : List Int32), lw_P b xs args s := by
  have hs := flat_of_before _ h
  have hq := flat_of_before _ hr
  have hc : (Cond.count 1).before args s = true := hs _ (by decide +kernel)
  have harr : (Cond.arrayOf (.arg 0) .int).before args s = true := hs _ (by decide +kernel)
  have hle : (Cond.le (.length (.arg 0)) (.int 384)).before args s = true := hs _ (by decide +kernel)
  have hlen : (Cond.isInt (.length (.arg 0))).before args s = true := hq _ (by decide +kernel)
  have hall : (Cond.all (.arg 0) (.isInt (.elem (.arg 0) (.index 0)))).before args s = true := hq _ (by decide +kernel)
  obtain ⟨b, xs, hb, hx⟩ := State.ints_of_pre rfl harr hlen hall
  have hsm : xs.length < 2 ^ 31 := hx.choose_spec.2.2.2
  have hev : (Term.length (.arg 0)).eval args s none [] s = some (.int xs.length.toInt32) := hx.length_eval hb
  have hv := Cond.le_ints hev (show (Term.int 384).eval args s none [] s = some (.int 384) from rfl)
  have hd : xs.length.toInt32 ≤ 384 := by
    simpa [Cond.before, Cond.holds, hv] using hle
  have hN : xs.length ≤ 384 := (Int32.ofNat_le_ofNat hsm (by decide)).mp (show Int32.ofNat xs.length ≤ Int32.ofNat 384 from hd)
  exact ⟨b, xs, Cond.one_arg hc (show args[0]? = some (.ref b) from hb), hx, hN, h⟩
theorem lw_comes (l : Launch) : Comes l x (Jvm.Cond.code x code maxLocals ret :: tables_1) room_1 (fun tb e args s => Calls_1 tb e args s ∧ rest_1 tb e args s ∧ Pre_1 tb e args s)
    (fun _ _ args s o t => lw_Q args s o t) := by
  intro p e ha hc hk s m args below hf hfit hheap happ hpre
  obtain ⟨b, xs, hP⟩ := lw_pre_spec hpre.2.2 hpre.2.1
  obtain ⟨k, o, h1, h2, h3, hQ⟩ := lw_walk l b xs p e ha hc hk s m args below hf ((Spec.applies_iff_loose hf).mp happ).1 hP trivial
  exact ⟨k, o, h1, h2, h3, hQ⟩
theorem lw_frame {s t : State} {o : Outcome} {args : Array Value} (h : Framed s o t [] 600000 7290000) :
    Framed s o t (fieldLocs frame_1_writes args s ++ arrayLocs frame_1_arrays args s ++ staticLocs frame_1_statics s) 600000 7290000 := h
theorem lw_limb (L : Cond) (hL : ∀ (args : Array Value) (s t : State), L.after args s (.returned (some (.int 1))) t = true) :
    ArmFor flags0 classFile x code maxLocals ret World_1 tables_1 room_1 Calls_1 rest_1 Pre_1
      (fun tb e a s o t => postC L tb e a s o t ∧ Framed s o t (fieldLocs frame_1_writes a s ++ arrayLocs frame_1_arrays a s ++ staticLocs frame_1_statics s) 600000 7290000) := by
  intro l _ _ _ p e ha hc hk s m args below hf hfit hheap happ hpre
  obtain ⟨k, o, h1, h2, h3, rfl, hF⟩ := lw_comes l p e ha hc hk s m args below hf hfit hheap happ hpre
  exact ⟨k, _, h1, h2, h3, hL args s _, lw_frame hF⟩
theorem i_vc : Claimed_1_1 ∧ Claimed_1_2 := ⟨lw_limb limb_1_1 (fun args s t => by simp [limb_1_1, Cond.after, Cond.holds, Cond.value]), lw_limb limb_1_2 (fun args s t => Cond.after_iff.mpr (by
  first | (rw [show limb_1_2 = Cond.eq .result (.int 1) from rfl, Cond.eq_ints (x := 1) (y := 1) rfl rfl]; simp; done) | (simp [limb_1_2, Cond.value, Term.eval]; done)))⟩
end
