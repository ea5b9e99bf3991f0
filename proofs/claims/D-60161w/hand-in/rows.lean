section
-- ===== PART A: goes FIRST, ahead of the names: the tables' words, and 'selects' of the private methods out of them =====
/-- a private method of a class that the tables say can be made, by its rows of tables_1 -/
def lw_okq (q : MethodName × Nat) : Prop := (q.1.cls ≠ "java/lang/invoke/MethodHandle" ∧ q.1.cls ≠ "java/lang/invoke/VarHandle") ∧ Cond.instantiable q.1.cls q.2 ∈ tables_1 ∧ Cond.privateMethod q.1 ∈ tables_1 ∧ Cond.instanceMethod q.1 ∈ tables_1
set_option maxRecDepth 100000
theorem lw_p0 : lw_okq (⟨"MateDesk", "grows", "(I)Z"⟩, 7) := ⟨⟨by decide +kernel, by decide +kernel⟩, List.mem_of_getElem? (i := 4) rfl, List.mem_of_getElem? (i := 56) rfl, List.mem_of_getElem? (i := 57) rfl⟩
theorem lw_p1 : lw_okq (⟨"MateDesk", "turn", "(II)V"⟩, 7) := ⟨⟨by decide +kernel, by decide +kernel⟩, List.mem_of_getElem? (i := 4) rfl, List.mem_of_getElem? (i := 60) rfl, List.mem_of_getElem? (i := 61) rfl⟩
theorem lw_p2 : lw_okq (⟨"MateDeskModel", "reckon", "()V"⟩, 9) := ⟨⟨by decide +kernel, by decide +kernel⟩, List.mem_of_getElem? (i := 77) rfl, List.mem_of_getElem? (i := 128) rfl, List.mem_of_getElem? (i := 129) rfl⟩
def lw_privs_1 : List (MethodName × Nat) := [(⟨"MateDesk", "grows", "(I)Z"⟩, 7), (⟨"MateDesk", "turn", "(II)V"⟩, 7), (⟨"MateDeskModel", "reckon", "()V"⟩, 9)]
theorem lw_r1 : ∀ q ∈ lw_privs_1, lw_okq q := List.forall_mem_cons.mpr ⟨lw_p0, List.forall_mem_cons.mpr ⟨lw_p1, List.forall_mem_cons.mpr ⟨lw_p2, fun _ h => absurd h List.not_mem_nil⟩⟩⟩
def lw_privs : List (MethodName × Nat) := lw_privs_1
def lw_tbl : List Cond := k2_sels lw_privs ++ tables_1
theorem lw_privs_ok : ∀ q ∈ lw_privs, lw_okq q := lw_r1
-- ===== ONE list of words for every method: the tables' words that hold all through a run =====
def lw_all : List Cond := lw_tbl.filter goodWord
/-- a word of the tables by its place: claim/WORDS.tsv -/
theorem lw_w {w : Cond} (i : Nat) (h : lw_tbl[i]? = some w) (g : goodWord w = true) : w ∈ lw_all := List.mem_filter.mpr ⟨List.mem_of_getElem? h, g⟩
theorem lw_all_tbl {w : Cond} (h : w ∈ lw_all) : w ∈ lw_tbl := (List.mem_filter.mp h).1
theorem lw_self : GoodIn lw_all lw_all := fun w h => ⟨h, good_of_word (List.mem_filter.mp h).2⟩
/-- a class's field words, by their places -/
theorem lw_in (ws : List Cond) (ps : List Nat) (hp : ws = ps.filterMap (fun i => lw_tbl[i]?)) (hg : ws.all goodWord = true) : ∀ w ∈ ws, w ∈ lw_all := by
  intro w h
  have h1 := List.all_eq_true.mp hg w h
  rw [hp] at h
  obtain ⟨i, -, hi⟩ := List.mem_filterMap.mp h
  exact lw_w i hi h1
/-- the words of a contract for the method y with code b, L locals, answer r -/
abbrev ws_ (y : MethodName) (b : ByteArray) (L : Nat) (r : Option FieldType) : List Cond := Cond.code y b L r :: lw_all
theorem lw_meth {y : MethodName} {b : ByteArray} {L : Nat} {r : Option FieldType} (h : Cond.code y b L r ∈ lw_all) : GoodIn lw_all (ws_ y b L r) := by
  intro w hw
  rcases List.mem_cons.mp hw with e | e
  · rw [e]
    exact lw_self _ h
  · exact lw_self _ e
theorem lw_app {a c : List Cond} (ha : ∀ w ∈ a, w ∈ lw_all) (hc : GoodIn lw_all c) : GoodIn lw_all (a ++ c) := by
  intro w hw
  rcases List.mem_append.mp hw with e | e
  · exact lw_self w (ha w e)
  · exact hc w e
/-- what a call through an object asks: cwV n hts (lw_V ..) -/
theorem lw_V {own : String} {idx : Nat} {C : String} {y : MethodName} {b : ByteArray} {L : Nat} {r : Option FieldType} (h1 : Cond.methodLink own idx y ∈ lw_all) (h2 : Cond.instanceMethod y ∈ lw_all) (h3 : Cond.selects C y y ∈ lw_all) (h4 : Cond.initialized C ∈ lw_all) (h5 : Cond.code y b L r ∈ lw_all) : GoodIn lw_all (wsV own idx C y (ws_ y b L r)) := by
  refine lw_app ?_ (lw_meth h5)
  intro w hw
  simp only [List.mem_cons, List.not_mem_nil, or_false] at hw
  rcases hw with e | e | e | e
  · rw [e]; exact h1
  · rw [e]; exact h2
  · rw [e]; exact h3
  · rw [e]; exact h4
/-- what a static call asks: va_cwS n hts (lw_S ..) -/
theorem lw_S {own : String} {idx : Nat} {y : MethodName} {b : ByteArray} {L : Nat} {r : Option FieldType} (h1 : Cond.methodLink own idx y ∈ lw_all) (h2 : Cond.static y ∈ lw_all) (h3 : Cond.initialized y.cls ∈ lw_all) (h4 : Cond.code y b L r ∈ lw_all) : GoodIn lw_all (va_wsS own idx y (ws_ y b L r)) := by
  refine lw_app ?_ (lw_meth h4)
  intro w hw
  simp only [List.mem_cons, List.not_mem_nil, or_false] at hw
  rcases hw with e | e | e
  · rw [e]; exact h1
  · rw [e]; exact h2
  · rw [e]; exact h3
/-- the words of a contract for a method WITH HANDLERS (hh: its table) -/
abbrev wsW_ (y : MethodName) (b : ByteArray) (L : Nat) (r : Option FieldType) (hh : List (Nat × Nat × Nat × Nat)) : List Cond := Cond.codeWith y b L r hh :: lw_all
theorem lw_methW {y : MethodName} {b : ByteArray} {L : Nat} {r : Option FieldType} {hh : List (Nat × Nat × Nat × Nat)} (h : Cond.codeWith y b L r hh ∈ lw_all) : GoodIn lw_all (wsW_ y b L r hh) := by
  intro w hw
  rcases List.mem_cons.mp hw with e | e
  · rw [e]
    exact lw_self _ h
  · exact lw_self _ e
/-- any list of words by their places (lw_in), good -/
theorem lw_good {ws : List Cond} (h : ∀ w ∈ ws, w ∈ lw_all) : GoodIn lw_all ws := fun w hw => lw_self w (h w hw)
/-- what a call of a method with handlers asks: vx_cwVW n hts (lw_VW ..), vx_cwSW n hts (lw_SW ..) -/
theorem lw_VW {own : String} {idx : Nat} {C : String} {y : MethodName} {b : ByteArray} {L : Nat} {r : Option FieldType} {hh : List (Nat × Nat × Nat × Nat)} (h1 : Cond.methodLink own idx y ∈ lw_all) (h2 : Cond.instanceMethod y ∈ lw_all) (h3 : Cond.selects C y y ∈ lw_all) (h4 : Cond.initialized C ∈ lw_all) (h5 : Cond.codeWith y b L r hh ∈ lw_all) : GoodIn lw_all (wsV own idx C y (wsW_ y b L r hh)) := by
  refine lw_app ?_ (lw_methW h5)
  intro w hw
  simp only [List.mem_cons, List.not_mem_nil, or_false] at hw
  rcases hw with e | e | e | e
  · rw [e]; exact h1
  · rw [e]; exact h2
  · rw [e]; exact h3
  · rw [e]; exact h4
theorem lw_SW {own : String} {idx : Nat} {y : MethodName} {b : ByteArray} {L : Nat} {r : Option FieldType} {hh : List (Nat × Nat × Nat × Nat)} (h1 : Cond.methodLink own idx y ∈ lw_all) (h2 : Cond.static y ∈ lw_all) (h3 : Cond.initialized y.cls ∈ lw_all) (h4 : Cond.codeWith y b L r hh ∈ lw_all) : GoodIn lw_all (va_wsS own idx y (wsW_ y b L r hh)) := by
  refine lw_app ?_ (lw_methW h4)
  intro w hw
  simp only [List.mem_cons, List.not_mem_nil, or_false] at hw
  rcases hw with e | e | e
  · rw [e]; exact h1
  · rw [e]; exact h2
  · rw [e]; exact h3
/-- a word by its place in its run of the tables -/
theorem lw_at {r : List Cond} (hr : ∀ w ∈ r, w ∈ lw_tbl) {w : Cond} (i : Nat) (h : r[i]? = some w) : w ∈ lw_tbl := hr w (List.mem_of_getElem? h)
theorem lw_g {w : Cond} (h : w ∈ lw_tbl) (g : goodWord w = true) : w ∈ lw_all := List.mem_filter.mpr ⟨h, g⟩
theorem lw_ms : ∀ w ∈ k2_sels lw_privs, w ∈ lw_tbl := fun w h => show w ∈ k2_sels lw_privs ++ tables_1 from List.mem_append_left _ h
theorem lw_m0 : ∀ w ∈ tables_1, w ∈ lw_tbl := fun w h => show w ∈ k2_sels lw_privs ++ tables_1 from List.mem_append_right (k2_sels lw_privs) h
theorem qs0 : (Cond.selects "MateDesk" ⟨"MateDesk", "grows", "(I)Z"⟩ ⟨"MateDesk", "grows", "(I)Z"⟩) ∈ lw_all := lw_g (lw_at lw_ms 0 rfl) rfl
theorem qs1 : (Cond.selects "MateDesk" ⟨"MateDesk", "turn", "(II)V"⟩ ⟨"MateDesk", "turn", "(II)V"⟩) ∈ lw_all := lw_g (lw_at lw_ms 1 rfl) rfl
theorem qs2 : (Cond.selects "MateDeskModel" ⟨"MateDeskModel", "reckon", "()V"⟩ ⟨"MateDeskModel", "reckon", "()V"⟩) ∈ lw_all := lw_g (lw_at lw_ms 2 rfl) rfl
-- ===== end of PART A; then your names; then what follows =====
theorem q36 : (Jvm.Cond.arrayClass Jvm.ClassFile.FieldType.int) ∈ lw_all := lw_g (lw_at lw_m0 33 rfl) rfl
set_option maxRecDepth 100000
theorem q37 : (Jvm.Cond.arrayClass Jvm.ClassFile.FieldType.long) ∈ lw_all := lw_g (lw_at lw_m0 34 rfl) rfl
/-! java/lang/Object -/
set_option maxRecDepth 100000
def RJ0 : String := "java/lang/Object"
abbrev cJ0_init : ByteArray := object_method_1_code
def yJ0_init : MethodName := ⟨RJ0, "<init>", "()V"⟩
theorem dJ0_init_0 : decode cJ0_init 0 = .ok (.return_, 1) := by decide +kernel
theorem q12 : (Jvm.Cond.instanceMethod ({ cls := "java/lang/Object", name := "<init>", desc := "()V" } : Jvm.MethodName)) ∈ lw_all := lw_g (lw_at lw_m0 9 rfl) rfl
theorem q13 : (Jvm.Cond.code ({ cls := "java/lang/Object", name := "<init>", desc := "()V" } : Jvm.MethodName) object_method_1_code (1 : Nat) (Option.none : Option Jvm.ClassFile.FieldType)) ∈ lw_all := lw_g (lw_at lw_m0 10 rfl) rfl
theorem q3 : (Jvm.Cond.initialized "MateDeskLaw") ∈ lw_all := lw_g (lw_at lw_m0 0 rfl) rfl
set_option maxRecDepth 100000
theorem q6 : (Jvm.Cond.classLink "MateDeskLaw" (7 : Nat) "MateDesk") ∈ lw_all := lw_g (lw_at lw_m0 3 rfl) rfl
theorem q8 : (Jvm.Cond.methodLink "MateDeskLaw" (9 : Nat) ({ cls := "MateDesk", name := "<init>", desc := "()V" } : Jvm.MethodName)) ∈ lw_all := lw_g (lw_at lw_m0 5 rfl) rfl
theorem q38 : (Jvm.Cond.methodLink "MateDeskLaw" (13 : Nat) ({ cls := "MateDesk", name := "sizes", desc := "(II)V" } : Jvm.MethodName)) ∈ lw_all := lw_g (lw_at lw_m0 35 rfl) rfl
theorem q42 : (Jvm.Cond.methodLink "MateDeskLaw" (18 : Nat) ({ cls := "MateDesk", name := "may", desc := "(II)V" } : Jvm.MethodName)) ∈ lw_all := lw_g (lw_at lw_m0 39 rfl) rfl
theorem q50 : (Jvm.Cond.methodLink "MateDeskLaw" (22 : Nat) ({ cls := "MateDesk", name := "not", desc := "(II)V" } : Jvm.MethodName)) ∈ lw_all := lw_g (lw_at lw_m0 47 rfl) rfl
theorem q54 : (Jvm.Cond.methodLink "MateDeskLaw" (26 : Nat) ({ cls := "MateDesk", name := "most", desc := "()I" } : Jvm.MethodName)) ∈ lw_all := lw_g (lw_at lw_m0 51 rfl) rfl
theorem q66 : (Jvm.Cond.methodLink "MateDeskLaw" (31 : Nat) ({ cls := "MateDesk", name := "watchers", desc := "()I" } : Jvm.MethodName)) ∈ lw_all := lw_g (lw_at lw_m0 63 rfl) rfl
theorem q71 : (Jvm.Cond.methodLink "MateDeskLaw" (35 : Nat) ({ cls := "MateDesk", name := "lack", desc := "()I" } : Jvm.MethodName)) ∈ lw_all := lw_g (lw_at lw_m0 68 rfl) rfl
theorem q75 : (Jvm.Cond.methodLink "MateDeskLaw" (39 : Nat) ({ cls := "MateDesk", name := "full", desc := "()J" } : Jvm.MethodName)) ∈ lw_all := lw_g (lw_at lw_m0 72 rfl) rfl
theorem q79 : (Jvm.Cond.classLink "MateDeskLaw" (10 : Nat) "MateDeskModel") ∈ lw_all := lw_g (lw_at lw_m0 76 rfl) rfl
theorem q81 : (Jvm.Cond.methodLink "MateDeskLaw" (12 : Nat) ({ cls := "MateDeskModel", name := "<init>", desc := "()V" } : Jvm.MethodName)) ∈ lw_all := lw_g (lw_at lw_m0 78 rfl) rfl
theorem q113 : (Jvm.Cond.methodLink "MateDeskLaw" (17 : Nat) ({ cls := "MateDeskModel", name := "sizes", desc := "(II)V" } : Jvm.MethodName)) ∈ lw_all := lw_g (lw_at lw_m0 110 rfl) rfl
theorem q117 : (Jvm.Cond.methodLink "MateDeskLaw" (21 : Nat) ({ cls := "MateDeskModel", name := "may", desc := "(II)V" } : Jvm.MethodName)) ∈ lw_all := lw_g (lw_at lw_m0 114 rfl) rfl
theorem q122 : (Jvm.Cond.methodLink "MateDeskLaw" (25 : Nat) ({ cls := "MateDeskModel", name := "not", desc := "(II)V" } : Jvm.MethodName)) ∈ lw_all := lw_g (lw_at lw_m0 119 rfl) rfl
theorem q126 : (Jvm.Cond.methodLink "MateDeskLaw" (30 : Nat) ({ cls := "MateDeskModel", name := "most", desc := "()I" } : Jvm.MethodName)) ∈ lw_all := lw_g (lw_at lw_m0 123 rfl) rfl
theorem q137 : (Jvm.Cond.methodLink "MateDeskLaw" (34 : Nat) ({ cls := "MateDeskModel", name := "watchers", desc := "()I" } : Jvm.MethodName)) ∈ lw_all := lw_g (lw_at lw_m0 134 rfl) rfl
theorem q141 : (Jvm.Cond.methodLink "MateDeskLaw" (38 : Nat) ({ cls := "MateDeskModel", name := "lack", desc := "()I" } : Jvm.MethodName)) ∈ lw_all := lw_g (lw_at lw_m0 138 rfl) rfl
theorem q145 : (Jvm.Cond.methodLink "MateDeskLaw" (43 : Nat) ({ cls := "MateDeskModel", name := "full", desc := "()J" } : Jvm.MethodName)) ∈ lw_all := lw_g (lw_at lw_m0 142 rfl) rfl
end
section
/-! MateDesk -/
set_option maxRecDepth 100000
def RX0 : String := "MateDesk"
def TX0 : u_T := fun k => match k with
  | 0 => ("MateDesk", "lefts", "I", false)
  | 1 => ("MateDesk", "rights", "I", false)
  | 2 => ("MateDesk", "may", "[I", true)
  | 3 => ("MateDesk", "mate", "[I", true)
  | 4 => ("MateDesk", "from", "[I", true)
  | 5 => ("MateDesk", "line", "[I", true)
  | _ => ("MateDesk", "ways", "[J", true)
def tyX0 : Nat → FieldType := fun k => match k with
  | 0 => .int
  | 1 => .int
  | 2 => .array .int
  | 3 => .array .int
  | 4 => .array .int
  | 5 => .array .int
  | _ => .array .long
abbrev wsX00 : List Cond := u_ws RX0 TX0 7
theorem nmX0 : ∀ a, a < 7 → ∀ b, b < 7 → a ≠ b → (TX0 a).2.1 ≠ (TX0 b).2.1 := by decide +kernel
theorem tyX0_ok : ∀ k, k < 7 → parseFieldDescriptor (TX0 k).2.2.1 = some (tyX0 k) := by decide +kernel
abbrev cX0_init : ByteArray := prog_1_method_1_code
def yX0_init : MethodName := ⟨RX0, "<init>", "()V"⟩
theorem dX0_init_0 : decode cX0_init 0 = .ok (.aload_n 0, 1) := by decide +kernel
theorem dX0_init_1 : decode cX0_init 1 = .ok (.invokespecial 1, 3) := by decide +kernel
theorem dX0_init_4 : decode cX0_init 4 = .ok (.aload_n 0, 1) := by decide +kernel
theorem dX0_init_5 : decode cX0_init 5 = .ok (.iconst 4, 1) := by decide +kernel
theorem dX0_init_6 : decode cX0_init 6 = .ok (.putfield 7, 3) := by decide +kernel
theorem dX0_init_9 : decode cX0_init 9 = .ok (.aload_n 0, 1) := by decide +kernel
theorem dX0_init_10 : decode cX0_init 10 = .ok (.iconst 4, 1) := by decide +kernel
theorem dX0_init_11 : decode cX0_init 11 = .ok (.putfield 13, 3) := by decide +kernel
theorem dX0_init_14 : decode cX0_init 14 = .ok (.aload_n 0, 1) := by decide +kernel
theorem dX0_init_15 : decode cX0_init 15 = .ok (.bipush 8, 2) := by decide +kernel
theorem dX0_init_17 : decode cX0_init 17 = .ok (.newarray .int, 2) := by decide +kernel
theorem dX0_init_19 : decode cX0_init 19 = .ok (.putfield 16, 3) := by decide +kernel
theorem dX0_init_22 : decode cX0_init 22 = .ok (.aload_n 0, 1) := by decide +kernel
theorem dX0_init_23 : decode cX0_init 23 = .ok (.bipush 8, 2) := by decide +kernel
theorem dX0_init_25 : decode cX0_init 25 = .ok (.newarray .int, 2) := by decide +kernel
theorem dX0_init_27 : decode cX0_init 27 = .ok (.putfield 20, 3) := by decide +kernel
theorem dX0_init_30 : decode cX0_init 30 = .ok (.aload_n 0, 1) := by decide +kernel
theorem dX0_init_31 : decode cX0_init 31 = .ok (.bipush 8, 2) := by decide +kernel
theorem dX0_init_33 : decode cX0_init 33 = .ok (.newarray .int, 2) := by decide +kernel
theorem dX0_init_35 : decode cX0_init 35 = .ok (.putfield 23, 3) := by decide +kernel
theorem dX0_init_38 : decode cX0_init 38 = .ok (.aload_n 0, 1) := by decide +kernel
theorem dX0_init_39 : decode cX0_init 39 = .ok (.bipush 9, 2) := by decide +kernel
theorem dX0_init_41 : decode cX0_init 41 = .ok (.newarray .int, 2) := by decide +kernel
theorem dX0_init_43 : decode cX0_init 43 = .ok (.putfield 26, 3) := by decide +kernel
theorem dX0_init_46 : decode cX0_init 46 = .ok (.aload_n 0, 1) := by decide +kernel
theorem dX0_init_47 : decode cX0_init 47 = .ok (.sipush 256, 3) := by decide +kernel
theorem dX0_init_50 : decode cX0_init 50 = .ok (.newarray .long, 2) := by decide +kernel
theorem dX0_init_52 : decode cX0_init 52 = .ok (.putfield 29, 3) := by decide +kernel
theorem dX0_init_55 : decode cX0_init 55 = .ok (.return_, 1) := by decide +kernel
abbrev cX0_sizes : ByteArray := prog_1_method_3_code
def yX0_sizes : MethodName := ⟨RX0, "sizes", "(II)V"⟩
theorem dX0_sizes_0 : decode cX0_sizes 0 = .ok (.aload_n 0, 1) := by decide +kernel
theorem dX0_sizes_1 : decode cX0_sizes 1 = .ok (.iconst 1, 1) := by decide +kernel
theorem dX0_sizes_2 : decode cX0_sizes 2 = .ok (.iload_n 1, 1) := by decide +kernel
theorem dX0_sizes_3 : decode cX0_sizes 3 = .ok (.bipush 7, 2) := by decide +kernel
theorem dX0_sizes_5 : decode cX0_sizes 5 = .ok (.iand, 1) := by decide +kernel
theorem dX0_sizes_6 : decode cX0_sizes 6 = .ok (.iadd, 1) := by decide +kernel
theorem dX0_sizes_7 : decode cX0_sizes 7 = .ok (.putfield 7, 3) := by decide +kernel
theorem dX0_sizes_10 : decode cX0_sizes 10 = .ok (.aload_n 0, 1) := by decide +kernel
theorem dX0_sizes_11 : decode cX0_sizes 11 = .ok (.iconst 1, 1) := by decide +kernel
theorem dX0_sizes_12 : decode cX0_sizes 12 = .ok (.iload_n 2, 1) := by decide +kernel
theorem dX0_sizes_13 : decode cX0_sizes 13 = .ok (.bipush 7, 2) := by decide +kernel
theorem dX0_sizes_15 : decode cX0_sizes 15 = .ok (.iand, 1) := by decide +kernel
theorem dX0_sizes_16 : decode cX0_sizes 16 = .ok (.iadd, 1) := by decide +kernel
theorem dX0_sizes_17 : decode cX0_sizes 17 = .ok (.putfield 13, 3) := by decide +kernel
theorem dX0_sizes_20 : decode cX0_sizes 20 = .ok (.iconst 0, 1) := by decide +kernel
theorem dX0_sizes_21 : decode cX0_sizes 21 = .ok (.istore_n 3, 1) := by decide +kernel
theorem dX0_sizes_22 : decode cX0_sizes 22 = .ok (.iload_n 3, 1) := by decide +kernel
theorem dX0_sizes_23 : decode cX0_sizes 23 = .ok (.bipush 8, 2) := by decide +kernel
theorem dX0_sizes_25 : decode cX0_sizes 25 = .ok (.if_icmp .ge 16, 3) := by decide +kernel
theorem dX0_sizes_28 : decode cX0_sizes 28 = .ok (.aload_n 0, 1) := by decide +kernel
theorem dX0_sizes_29 : decode cX0_sizes 29 = .ok (.getfield 16, 3) := by decide +kernel
theorem dX0_sizes_32 : decode cX0_sizes 32 = .ok (.iload_n 3, 1) := by decide +kernel
theorem dX0_sizes_33 : decode cX0_sizes 33 = .ok (.iconst 0, 1) := by decide +kernel
theorem dX0_sizes_34 : decode cX0_sizes 34 = .ok (.iastore, 1) := by decide +kernel
theorem dX0_sizes_35 : decode cX0_sizes 35 = .ok (.iinc 3 1, 3) := by decide +kernel
theorem dX0_sizes_38 : decode cX0_sizes 38 = .ok (.goto (-16), 3) := by decide +kernel
theorem dX0_sizes_41 : decode cX0_sizes 41 = .ok (.return_, 1) := by decide +kernel
abbrev cX0_may : ByteArray := prog_1_method_4_code
def yX0_may : MethodName := ⟨RX0, "may", "(II)V"⟩
theorem dX0_may_0 : decode cX0_may 0 = .ok (.aload_n 0, 1) := by decide +kernel
theorem dX0_may_1 : decode cX0_may 1 = .ok (.getfield 16, 3) := by decide +kernel
theorem dX0_may_4 : decode cX0_may 4 = .ok (.iload_n 1, 1) := by decide +kernel
theorem dX0_may_5 : decode cX0_may 5 = .ok (.aload_n 0, 1) := by decide +kernel
theorem dX0_may_6 : decode cX0_may 6 = .ok (.getfield 7, 3) := by decide +kernel
theorem dX0_may_9 : decode cX0_may 9 = .ok (.invokestatic 34, 3) := by decide +kernel
theorem dX0_may_12 : decode cX0_may 12 = .ok (.dup2, 1) := by decide +kernel
theorem dX0_may_13 : decode cX0_may 13 = .ok (.iaload, 1) := by decide +kernel
theorem dX0_may_14 : decode cX0_may 14 = .ok (.iconst 1, 1) := by decide +kernel
theorem dX0_may_15 : decode cX0_may 15 = .ok (.iload_n 2, 1) := by decide +kernel
theorem dX0_may_16 : decode cX0_may 16 = .ok (.aload_n 0, 1) := by decide +kernel
theorem dX0_may_17 : decode cX0_may 17 = .ok (.getfield 13, 3) := by decide +kernel
theorem dX0_may_20 : decode cX0_may 20 = .ok (.invokestatic 34, 3) := by decide +kernel
theorem dX0_may_23 : decode cX0_may 23 = .ok (.ishl, 1) := by decide +kernel
theorem dX0_may_24 : decode cX0_may 24 = .ok (.ior, 1) := by decide +kernel
theorem dX0_may_25 : decode cX0_may 25 = .ok (.iastore, 1) := by decide +kernel
theorem dX0_may_26 : decode cX0_may 26 = .ok (.return_, 1) := by decide +kernel
abbrev cX0_counted : ByteArray := prog_1_method_2_code
def yX0_counted : MethodName := ⟨RX0, "counted", "(II)I"⟩
theorem dX0_counted_0 : decode cX0_counted 0 = .ok (.iload_n 0, 1) := by decide +kernel
theorem dX0_counted_1 : decode cX0_counted 1 = .ok (.ldc 33, 2) := by decide +kernel
theorem dX0_counted_3 : decode cX0_counted 3 = .ok (.iand, 1) := by decide +kernel
theorem dX0_counted_4 : decode cX0_counted 4 = .ok (.iload_n 1, 1) := by decide +kernel
theorem dX0_counted_5 : decode cX0_counted 5 = .ok (.irem, 1) := by decide +kernel
theorem dX0_counted_6 : decode cX0_counted 6 = .ok (.ireturn, 1) := by decide +kernel
abbrev cX0_not : ByteArray := prog_1_method_5_code
def yX0_not : MethodName := ⟨RX0, "not", "(II)V"⟩
theorem dX0_not_0 : decode cX0_not 0 = .ok (.aload_n 0, 1) := by decide +kernel
theorem dX0_not_1 : decode cX0_not 1 = .ok (.getfield 16, 3) := by decide +kernel
theorem dX0_not_4 : decode cX0_not 4 = .ok (.iload_n 1, 1) := by decide +kernel
theorem dX0_not_5 : decode cX0_not 5 = .ok (.aload_n 0, 1) := by decide +kernel
theorem dX0_not_6 : decode cX0_not 6 = .ok (.getfield 7, 3) := by decide +kernel
theorem dX0_not_9 : decode cX0_not 9 = .ok (.invokestatic 34, 3) := by decide +kernel
theorem dX0_not_12 : decode cX0_not 12 = .ok (.dup2, 1) := by decide +kernel
theorem dX0_not_13 : decode cX0_not 13 = .ok (.iaload, 1) := by decide +kernel
theorem dX0_not_14 : decode cX0_not 14 = .ok (.iconst 1, 1) := by decide +kernel
theorem dX0_not_15 : decode cX0_not 15 = .ok (.iload_n 2, 1) := by decide +kernel
theorem dX0_not_16 : decode cX0_not 16 = .ok (.aload_n 0, 1) := by decide +kernel
theorem dX0_not_17 : decode cX0_not 17 = .ok (.getfield 13, 3) := by decide +kernel
theorem dX0_not_20 : decode cX0_not 20 = .ok (.invokestatic 34, 3) := by decide +kernel
theorem dX0_not_23 : decode cX0_not 23 = .ok (.ishl, 1) := by decide +kernel
theorem dX0_not_24 : decode cX0_not 24 = .ok (.iconst (-1), 1) := by decide +kernel
theorem dX0_not_25 : decode cX0_not 25 = .ok (.ixor, 1) := by decide +kernel
theorem dX0_not_26 : decode cX0_not 26 = .ok (.iand, 1) := by decide +kernel
theorem dX0_not_27 : decode cX0_not 27 = .ok (.iastore, 1) := by decide +kernel
theorem dX0_not_28 : decode cX0_not 28 = .ok (.return_, 1) := by decide +kernel
abbrev cX0_most : ByteArray := prog_1_method_8_code
def yX0_most : MethodName := ⟨RX0, "most", "()I"⟩
theorem dX0_most_0 : decode cX0_most 0 = .ok (.iconst 0, 1) := by decide +kernel
theorem dX0_most_1 : decode cX0_most 1 = .ok (.istore_n 1, 1) := by decide +kernel
theorem dX0_most_2 : decode cX0_most 2 = .ok (.iload_n 1, 1) := by decide +kernel
theorem dX0_most_3 : decode cX0_most 3 = .ok (.bipush 8, 2) := by decide +kernel
theorem dX0_most_5 : decode cX0_most 5 = .ok (.if_icmp .ge 16, 3) := by decide +kernel
theorem dX0_most_8 : decode cX0_most 8 = .ok (.aload_n 0, 1) := by decide +kernel
theorem dX0_most_9 : decode cX0_most 9 = .ok (.getfield 20, 3) := by decide +kernel
theorem dX0_most_12 : decode cX0_most 12 = .ok (.iload_n 1, 1) := by decide +kernel
theorem dX0_most_13 : decode cX0_most 13 = .ok (.iconst (-1), 1) := by decide +kernel
theorem dX0_most_14 : decode cX0_most 14 = .ok (.iastore, 1) := by decide +kernel
theorem dX0_most_15 : decode cX0_most 15 = .ok (.iinc 1 1, 3) := by decide +kernel
theorem dX0_most_18 : decode cX0_most 18 = .ok (.goto (-16), 3) := by decide +kernel
theorem dX0_most_21 : decode cX0_most 21 = .ok (.iconst 0, 1) := by decide +kernel
theorem dX0_most_22 : decode cX0_most 22 = .ok (.istore_n 1, 1) := by decide +kernel
theorem dX0_most_23 : decode cX0_most 23 = .ok (.iconst 0, 1) := by decide +kernel
theorem dX0_most_24 : decode cX0_most 24 = .ok (.istore_n 2, 1) := by decide +kernel
theorem dX0_most_25 : decode cX0_most 25 = .ok (.iload_n 2, 1) := by decide +kernel
theorem dX0_most_26 : decode cX0_most 26 = .ok (.aload_n 0, 1) := by decide +kernel
theorem dX0_most_27 : decode cX0_most 27 = .ok (.getfield 7, 3) := by decide +kernel
theorem dX0_most_30 : decode cX0_most 30 = .ok (.if_icmp .ge 20, 3) := by decide +kernel
theorem dX0_most_33 : decode cX0_most 33 = .ok (.aload_n 0, 1) := by decide +kernel
theorem dX0_most_34 : decode cX0_most 34 = .ok (.iload_n 2, 1) := by decide +kernel
theorem dX0_most_35 : decode cX0_most 35 = .ok (.invokevirtual 42, 3) := by decide +kernel
theorem dX0_most_38 : decode cX0_most 38 = .ok (.ifCond .eq 6, 3) := by decide +kernel
theorem dX0_most_41 : decode cX0_most 41 = .ok (.iinc 1 1, 3) := by decide +kernel
theorem dX0_most_44 : decode cX0_most 44 = .ok (.iinc 2 1, 3) := by decide +kernel
theorem dX0_most_47 : decode cX0_most 47 = .ok (.goto (-22), 3) := by decide +kernel
theorem dX0_most_50 : decode cX0_most 50 = .ok (.iload_n 1, 1) := by decide +kernel
theorem dX0_most_51 : decode cX0_most 51 = .ok (.ireturn, 1) := by decide +kernel
abbrev cX0_grows : ByteArray := prog_1_method_6_code
def yX0_grows : MethodName := ⟨RX0, "grows", "(I)Z"⟩
theorem dX0_grows_0 : decode cX0_grows 0 = .ok (.iconst 0, 1) := by decide +kernel
theorem dX0_grows_1 : decode cX0_grows 1 = .ok (.istore_n 2, 1) := by decide +kernel
theorem dX0_grows_2 : decode cX0_grows 2 = .ok (.iload_n 2, 1) := by decide +kernel
theorem dX0_grows_3 : decode cX0_grows 3 = .ok (.bipush 8, 2) := by decide +kernel
theorem dX0_grows_5 : decode cX0_grows 5 = .ok (.if_icmp .ge 16, 3) := by decide +kernel
theorem dX0_grows_8 : decode cX0_grows 8 = .ok (.aload_n 0, 1) := by decide +kernel
theorem dX0_grows_9 : decode cX0_grows 9 = .ok (.getfield 23, 3) := by decide +kernel
theorem dX0_grows_12 : decode cX0_grows 12 = .ok (.iload_n 2, 1) := by decide +kernel
theorem dX0_grows_13 : decode cX0_grows 13 = .ok (.iconst (-1), 1) := by decide +kernel
theorem dX0_grows_14 : decode cX0_grows 14 = .ok (.iastore, 1) := by decide +kernel
theorem dX0_grows_15 : decode cX0_grows 15 = .ok (.iinc 2 1, 3) := by decide +kernel
theorem dX0_grows_18 : decode cX0_grows 18 = .ok (.goto (-16), 3) := by decide +kernel
theorem dX0_grows_21 : decode cX0_grows 21 = .ok (.iconst 0, 1) := by decide +kernel
theorem dX0_grows_22 : decode cX0_grows 22 = .ok (.istore_n 2, 1) := by decide +kernel
theorem dX0_grows_23 : decode cX0_grows 23 = .ok (.iconst 1, 1) := by decide +kernel
theorem dX0_grows_24 : decode cX0_grows 24 = .ok (.istore_n 3, 1) := by decide +kernel
theorem dX0_grows_25 : decode cX0_grows 25 = .ok (.aload_n 0, 1) := by decide +kernel
theorem dX0_grows_26 : decode cX0_grows 26 = .ok (.getfield 26, 3) := by decide +kernel
theorem dX0_grows_29 : decode cX0_grows 29 = .ok (.iconst 0, 1) := by decide +kernel
theorem dX0_grows_30 : decode cX0_grows 30 = .ok (.iload_n 1, 1) := by decide +kernel
theorem dX0_grows_31 : decode cX0_grows 31 = .ok (.iastore, 1) := by decide +kernel
theorem dX0_grows_32 : decode cX0_grows 32 = .ok (.iload_n 2, 1) := by decide +kernel
theorem dX0_grows_33 : decode cX0_grows 33 = .ok (.iload_n 3, 1) := by decide +kernel
theorem dX0_grows_34 : decode cX0_grows 34 = .ok (.if_icmp .ge 109, 3) := by decide +kernel
theorem dX0_grows_37 : decode cX0_grows 37 = .ok (.aload_n 0, 1) := by decide +kernel
theorem dX0_grows_38 : decode cX0_grows 38 = .ok (.getfield 26, 3) := by decide +kernel
theorem dX0_grows_41 : decode cX0_grows 41 = .ok (.iload_n 2, 1) := by decide +kernel
theorem dX0_grows_42 : decode cX0_grows 42 = .ok (.iaload, 1) := by decide +kernel
theorem dX0_grows_43 : decode cX0_grows 43 = .ok (.istore 4, 2) := by decide +kernel
theorem dX0_grows_45 : decode cX0_grows 45 = .ok (.iinc 2 1, 3) := by decide +kernel
theorem dX0_grows_48 : decode cX0_grows 48 = .ok (.iconst 0, 1) := by decide +kernel
theorem dX0_grows_49 : decode cX0_grows 49 = .ok (.istore 5, 2) := by decide +kernel
theorem dX0_grows_51 : decode cX0_grows 51 = .ok (.iload 5, 2) := by decide +kernel
theorem dX0_grows_53 : decode cX0_grows 53 = .ok (.aload_n 0, 1) := by decide +kernel
theorem dX0_grows_54 : decode cX0_grows 54 = .ok (.getfield 13, 3) := by decide +kernel
theorem dX0_grows_57 : decode cX0_grows 57 = .ok (.if_icmp .ge 83, 3) := by decide +kernel
theorem dX0_grows_60 : decode cX0_grows 60 = .ok (.aload_n 0, 1) := by decide +kernel
theorem dX0_grows_61 : decode cX0_grows 61 = .ok (.getfield 16, 3) := by decide +kernel
theorem dX0_grows_64 : decode cX0_grows 64 = .ok (.iload 4, 2) := by decide +kernel
theorem dX0_grows_66 : decode cX0_grows 66 = .ok (.iaload, 1) := by decide +kernel
theorem dX0_grows_67 : decode cX0_grows 67 = .ok (.iload 5, 2) := by decide +kernel
theorem dX0_grows_69 : decode cX0_grows 69 = .ok (.ishr, 1) := by decide +kernel
theorem dX0_grows_70 : decode cX0_grows 70 = .ok (.iconst 1, 1) := by decide +kernel
theorem dX0_grows_71 : decode cX0_grows 71 = .ok (.iand, 1) := by decide +kernel
theorem dX0_grows_72 : decode cX0_grows 72 = .ok (.ifCond .eq 62, 3) := by decide +kernel
theorem dX0_grows_75 : decode cX0_grows 75 = .ok (.aload_n 0, 1) := by decide +kernel
theorem dX0_grows_76 : decode cX0_grows 76 = .ok (.getfield 23, 3) := by decide +kernel
theorem dX0_grows_79 : decode cX0_grows 79 = .ok (.iload 5, 2) := by decide +kernel
theorem dX0_grows_81 : decode cX0_grows 81 = .ok (.iaload, 1) := by decide +kernel
theorem dX0_grows_82 : decode cX0_grows 82 = .ok (.iconst (-1), 1) := by decide +kernel
theorem dX0_grows_83 : decode cX0_grows 83 = .ok (.if_icmp .eq 6, 3) := by decide +kernel
theorem dX0_grows_86 : decode cX0_grows 86 = .ok (.goto 48, 3) := by decide +kernel
theorem dX0_grows_89 : decode cX0_grows 89 = .ok (.aload_n 0, 1) := by decide +kernel
theorem dX0_grows_90 : decode cX0_grows 90 = .ok (.getfield 23, 3) := by decide +kernel
theorem dX0_grows_93 : decode cX0_grows 93 = .ok (.iload 5, 2) := by decide +kernel
theorem dX0_grows_95 : decode cX0_grows 95 = .ok (.iload 4, 2) := by decide +kernel
theorem dX0_grows_97 : decode cX0_grows 97 = .ok (.iastore, 1) := by decide +kernel
theorem dX0_grows_98 : decode cX0_grows 98 = .ok (.aload_n 0, 1) := by decide +kernel
theorem dX0_grows_99 : decode cX0_grows 99 = .ok (.getfield 20, 3) := by decide +kernel
theorem dX0_grows_102 : decode cX0_grows 102 = .ok (.iload 5, 2) := by decide +kernel
theorem dX0_grows_104 : decode cX0_grows 104 = .ok (.iaload, 1) := by decide +kernel
theorem dX0_grows_105 : decode cX0_grows 105 = .ok (.iconst (-1), 1) := by decide +kernel
theorem dX0_grows_106 : decode cX0_grows 106 = .ok (.if_icmp .ne 12, 3) := by decide +kernel
theorem dX0_grows_109 : decode cX0_grows 109 = .ok (.aload_n 0, 1) := by decide +kernel
theorem dX0_grows_110 : decode cX0_grows 110 = .ok (.iload 5, 2) := by decide +kernel
theorem dX0_grows_112 : decode cX0_grows 112 = .ok (.iload_n 1, 1) := by decide +kernel
theorem dX0_grows_113 : decode cX0_grows 113 = .ok (.invokevirtual 38, 3) := by decide +kernel
theorem dX0_grows_116 : decode cX0_grows 116 = .ok (.iconst 1, 1) := by decide +kernel
theorem dX0_grows_117 : decode cX0_grows 117 = .ok (.ireturn, 1) := by decide +kernel
theorem dX0_grows_118 : decode cX0_grows 118 = .ok (.aload_n 0, 1) := by decide +kernel
theorem dX0_grows_119 : decode cX0_grows 119 = .ok (.getfield 26, 3) := by decide +kernel
theorem dX0_grows_122 : decode cX0_grows 122 = .ok (.iload_n 3, 1) := by decide +kernel
theorem dX0_grows_123 : decode cX0_grows 123 = .ok (.aload_n 0, 1) := by decide +kernel
theorem dX0_grows_124 : decode cX0_grows 124 = .ok (.getfield 20, 3) := by decide +kernel
theorem dX0_grows_127 : decode cX0_grows 127 = .ok (.iload 5, 2) := by decide +kernel
theorem dX0_grows_129 : decode cX0_grows 129 = .ok (.iaload, 1) := by decide +kernel
theorem dX0_grows_130 : decode cX0_grows 130 = .ok (.iastore, 1) := by decide +kernel
theorem dX0_grows_131 : decode cX0_grows 131 = .ok (.iinc 3 1, 3) := by decide +kernel
theorem dX0_grows_134 : decode cX0_grows 134 = .ok (.iinc 5 1, 3) := by decide +kernel
theorem dX0_grows_137 : decode cX0_grows 137 = .ok (.goto (-86), 3) := by decide +kernel
theorem dX0_grows_140 : decode cX0_grows 140 = .ok (.goto (-108), 3) := by decide +kernel
theorem dX0_grows_143 : decode cX0_grows 143 = .ok (.iconst 0, 1) := by decide +kernel
theorem dX0_grows_144 : decode cX0_grows 144 = .ok (.ireturn, 1) := by decide +kernel
abbrev cX0_turn : ByteArray := prog_1_method_7_code
def yX0_turn : MethodName := ⟨RX0, "turn", "(II)V"⟩
theorem dX0_turn_0 : decode cX0_turn 0 = .ok (.iload_n 1, 1) := by decide +kernel
theorem dX0_turn_1 : decode cX0_turn 1 = .ok (.istore_n 3, 1) := by decide +kernel
theorem dX0_turn_2 : decode cX0_turn 2 = .ok (.iload_n 3, 1) := by decide +kernel
theorem dX0_turn_3 : decode cX0_turn 3 = .ok (.iconst (-1), 1) := by decide +kernel
theorem dX0_turn_4 : decode cX0_turn 4 = .ok (.if_icmp .eq 72, 3) := by decide +kernel
theorem dX0_turn_7 : decode cX0_turn 7 = .ok (.aload_n 0, 1) := by decide +kernel
theorem dX0_turn_8 : decode cX0_turn 8 = .ok (.getfield 23, 3) := by decide +kernel
theorem dX0_turn_11 : decode cX0_turn 11 = .ok (.iload_n 3, 1) := by decide +kernel
theorem dX0_turn_12 : decode cX0_turn 12 = .ok (.iaload, 1) := by decide +kernel
theorem dX0_turn_13 : decode cX0_turn 13 = .ok (.istore 4, 2) := by decide +kernel
theorem dX0_turn_15 : decode cX0_turn 15 = .ok (.iconst (-1), 1) := by decide +kernel
theorem dX0_turn_16 : decode cX0_turn 16 = .ok (.istore 5, 2) := by decide +kernel
theorem dX0_turn_18 : decode cX0_turn 18 = .ok (.iconst 0, 1) := by decide +kernel
theorem dX0_turn_19 : decode cX0_turn 19 = .ok (.istore 6, 2) := by decide +kernel
theorem dX0_turn_21 : decode cX0_turn 21 = .ok (.iload 6, 2) := by decide +kernel
theorem dX0_turn_23 : decode cX0_turn 23 = .ok (.aload_n 0, 1) := by decide +kernel
theorem dX0_turn_24 : decode cX0_turn 24 = .ok (.getfield 13, 3) := by decide +kernel
theorem dX0_turn_27 : decode cX0_turn 27 = .ok (.if_icmp .ge 25, 3) := by decide +kernel
theorem dX0_turn_30 : decode cX0_turn 30 = .ok (.aload_n 0, 1) := by decide +kernel
theorem dX0_turn_31 : decode cX0_turn 31 = .ok (.getfield 20, 3) := by decide +kernel
theorem dX0_turn_34 : decode cX0_turn 34 = .ok (.iload 6, 2) := by decide +kernel
theorem dX0_turn_36 : decode cX0_turn 36 = .ok (.iaload, 1) := by decide +kernel
theorem dX0_turn_37 : decode cX0_turn 37 = .ok (.iload 4, 2) := by decide +kernel
theorem dX0_turn_39 : decode cX0_turn 39 = .ok (.if_icmp .ne 7, 3) := by decide +kernel
theorem dX0_turn_42 : decode cX0_turn 42 = .ok (.iload 6, 2) := by decide +kernel
theorem dX0_turn_44 : decode cX0_turn 44 = .ok (.istore 5, 2) := by decide +kernel
theorem dX0_turn_46 : decode cX0_turn 46 = .ok (.iinc 6 1, 3) := by decide +kernel
theorem dX0_turn_49 : decode cX0_turn 49 = .ok (.goto (-28), 3) := by decide +kernel
theorem dX0_turn_52 : decode cX0_turn 52 = .ok (.aload_n 0, 1) := by decide +kernel
theorem dX0_turn_53 : decode cX0_turn 53 = .ok (.getfield 20, 3) := by decide +kernel
theorem dX0_turn_56 : decode cX0_turn 56 = .ok (.iload_n 3, 1) := by decide +kernel
theorem dX0_turn_57 : decode cX0_turn 57 = .ok (.iload 4, 2) := by decide +kernel
theorem dX0_turn_59 : decode cX0_turn 59 = .ok (.iastore, 1) := by decide +kernel
theorem dX0_turn_60 : decode cX0_turn 60 = .ok (.iload 4, 2) := by decide +kernel
theorem dX0_turn_62 : decode cX0_turn 62 = .ok (.iload_n 2, 1) := by decide +kernel
theorem dX0_turn_63 : decode cX0_turn 63 = .ok (.if_icmp .ne 7, 3) := by decide +kernel
theorem dX0_turn_66 : decode cX0_turn 66 = .ok (.iconst (-1), 1) := by decide +kernel
theorem dX0_turn_67 : decode cX0_turn 67 = .ok (.goto 5, 3) := by decide +kernel
theorem dX0_turn_70 : decode cX0_turn 70 = .ok (.iload 5, 2) := by decide +kernel
theorem dX0_turn_72 : decode cX0_turn 72 = .ok (.istore_n 3, 1) := by decide +kernel
theorem dX0_turn_73 : decode cX0_turn 73 = .ok (.goto (-71), 3) := by decide +kernel
theorem dX0_turn_76 : decode cX0_turn 76 = .ok (.return_, 1) := by decide +kernel
abbrev cX0_watchers : ByteArray := prog_1_method_9_code
def yX0_watchers : MethodName := ⟨RX0, "watchers", "()I"⟩
theorem dX0_watchers_0 : decode cX0_watchers 0 = .ok (.aload_n 0, 1) := by decide +kernel
theorem dX0_watchers_1 : decode cX0_watchers 1 = .ok (.invokevirtual 46, 3) := by decide +kernel
theorem dX0_watchers_4 : decode cX0_watchers 4 = .ok (.ireturn, 1) := by decide +kernel
abbrev cX0_lack : ByteArray := prog_1_method_10_code
def yX0_lack : MethodName := ⟨RX0, "lack", "()I"⟩
theorem dX0_lack_0 : decode cX0_lack 0 = .ok (.aload_n 0, 1) := by decide +kernel
theorem dX0_lack_1 : decode cX0_lack 1 = .ok (.getfield 7, 3) := by decide +kernel
theorem dX0_lack_4 : decode cX0_lack 4 = .ok (.aload_n 0, 1) := by decide +kernel
theorem dX0_lack_5 : decode cX0_lack 5 = .ok (.invokevirtual 46, 3) := by decide +kernel
theorem dX0_lack_8 : decode cX0_lack 8 = .ok (.isub, 1) := by decide +kernel
theorem dX0_lack_9 : decode cX0_lack 9 = .ok (.ireturn, 1) := by decide +kernel
abbrev cX0_full : ByteArray := prog_1_method_11_code
def yX0_full : MethodName := ⟨RX0, "full", "()J"⟩
theorem dX0_full_0 : decode cX0_full 0 = .ok (.iconst 1, 1) := by decide +kernel
theorem dX0_full_1 : decode cX0_full 1 = .ok (.aload_n 0, 1) := by decide +kernel
theorem dX0_full_2 : decode cX0_full 2 = .ok (.getfield 13, 3) := by decide +kernel
theorem dX0_full_5 : decode cX0_full 5 = .ok (.ishl, 1) := by decide +kernel
theorem dX0_full_6 : decode cX0_full 6 = .ok (.istore_n 1, 1) := by decide +kernel
theorem dX0_full_7 : decode cX0_full 7 = .ok (.iconst 0, 1) := by decide +kernel
theorem dX0_full_8 : decode cX0_full 8 = .ok (.istore_n 2, 1) := by decide +kernel
theorem dX0_full_9 : decode cX0_full 9 = .ok (.iload_n 2, 1) := by decide +kernel
theorem dX0_full_10 : decode cX0_full 10 = .ok (.iload_n 1, 1) := by decide +kernel
theorem dX0_full_11 : decode cX0_full 11 = .ok (.if_icmp .ge 24, 3) := by decide +kernel
theorem dX0_full_14 : decode cX0_full 14 = .ok (.aload_n 0, 1) := by decide +kernel
theorem dX0_full_15 : decode cX0_full 15 = .ok (.getfield 29, 3) := by decide +kernel
theorem dX0_full_18 : decode cX0_full 18 = .ok (.iload_n 2, 1) := by decide +kernel
theorem dX0_full_19 : decode cX0_full 19 = .ok (.iload_n 2, 1) := by decide +kernel
theorem dX0_full_20 : decode cX0_full 20 = .ok (.ifCond .ne 7, 3) := by decide +kernel
theorem dX0_full_23 : decode cX0_full 23 = .ok (.lconst 1, 1) := by decide +kernel
theorem dX0_full_24 : decode cX0_full 24 = .ok (.goto 4, 3) := by decide +kernel
theorem dX0_full_27 : decode cX0_full 27 = .ok (.lconst 0, 1) := by decide +kernel
theorem dX0_full_28 : decode cX0_full 28 = .ok (.lastore, 1) := by decide +kernel
theorem dX0_full_29 : decode cX0_full 29 = .ok (.iinc 2 1, 3) := by decide +kernel
theorem dX0_full_32 : decode cX0_full 32 = .ok (.goto (-23), 3) := by decide +kernel
theorem dX0_full_35 : decode cX0_full 35 = .ok (.iconst 0, 1) := by decide +kernel
theorem dX0_full_36 : decode cX0_full 36 = .ok (.istore_n 2, 1) := by decide +kernel
theorem dX0_full_37 : decode cX0_full 37 = .ok (.iload_n 2, 1) := by decide +kernel
theorem dX0_full_38 : decode cX0_full 38 = .ok (.aload_n 0, 1) := by decide +kernel
theorem dX0_full_39 : decode cX0_full 39 = .ok (.getfield 7, 3) := by decide +kernel
theorem dX0_full_42 : decode cX0_full 42 = .ok (.if_icmp .ge 85, 3) := by decide +kernel
theorem dX0_full_45 : decode cX0_full 45 = .ok (.iload_n 1, 1) := by decide +kernel
theorem dX0_full_46 : decode cX0_full 46 = .ok (.iconst 1, 1) := by decide +kernel
theorem dX0_full_47 : decode cX0_full 47 = .ok (.isub, 1) := by decide +kernel
theorem dX0_full_48 : decode cX0_full 48 = .ok (.istore_n 3, 1) := by decide +kernel
theorem dX0_full_49 : decode cX0_full 49 = .ok (.iload_n 3, 1) := by decide +kernel
theorem dX0_full_50 : decode cX0_full 50 = .ok (.ifCond .lt 71, 3) := by decide +kernel
theorem dX0_full_53 : decode cX0_full 53 = .ok (.lconst 0, 1) := by decide +kernel
theorem dX0_full_54 : decode cX0_full 54 = .ok (.lstore 4, 2) := by decide +kernel
theorem dX0_full_56 : decode cX0_full 56 = .ok (.iconst 0, 1) := by decide +kernel
theorem dX0_full_57 : decode cX0_full 57 = .ok (.istore 6, 2) := by decide +kernel
theorem dX0_full_59 : decode cX0_full 59 = .ok (.iload 6, 2) := by decide +kernel
theorem dX0_full_61 : decode cX0_full 61 = .ok (.aload_n 0, 1) := by decide +kernel
theorem dX0_full_62 : decode cX0_full 62 = .ok (.getfield 13, 3) := by decide +kernel
theorem dX0_full_65 : decode cX0_full 65 = .ok (.if_icmp .ge 42, 3) := by decide +kernel
theorem dX0_full_68 : decode cX0_full 68 = .ok (.iload_n 3, 1) := by decide +kernel
theorem dX0_full_69 : decode cX0_full 69 = .ok (.aload_n 0, 1) := by decide +kernel
theorem dX0_full_70 : decode cX0_full 70 = .ok (.getfield 16, 3) := by decide +kernel
theorem dX0_full_73 : decode cX0_full 73 = .ok (.iload_n 2, 1) := by decide +kernel
theorem dX0_full_74 : decode cX0_full 74 = .ok (.iaload, 1) := by decide +kernel
theorem dX0_full_75 : decode cX0_full 75 = .ok (.iand, 1) := by decide +kernel
theorem dX0_full_76 : decode cX0_full 76 = .ok (.iload 6, 2) := by decide +kernel
theorem dX0_full_78 : decode cX0_full 78 = .ok (.ishr, 1) := by decide +kernel
theorem dX0_full_79 : decode cX0_full 79 = .ok (.iconst 1, 1) := by decide +kernel
theorem dX0_full_80 : decode cX0_full 80 = .ok (.iand, 1) := by decide +kernel
theorem dX0_full_81 : decode cX0_full 81 = .ok (.iconst 1, 1) := by decide +kernel
theorem dX0_full_82 : decode cX0_full 82 = .ok (.if_icmp .ne 19, 3) := by decide +kernel
theorem dX0_full_85 : decode cX0_full 85 = .ok (.lload 4, 2) := by decide +kernel
theorem dX0_full_87 : decode cX0_full 87 = .ok (.aload_n 0, 1) := by decide +kernel
theorem dX0_full_88 : decode cX0_full 88 = .ok (.getfield 29, 3) := by decide +kernel
theorem dX0_full_91 : decode cX0_full 91 = .ok (.iload_n 3, 1) := by decide +kernel
theorem dX0_full_92 : decode cX0_full 92 = .ok (.iconst 1, 1) := by decide +kernel
theorem dX0_full_93 : decode cX0_full 93 = .ok (.iload 6, 2) := by decide +kernel
theorem dX0_full_95 : decode cX0_full 95 = .ok (.ishl, 1) := by decide +kernel
theorem dX0_full_96 : decode cX0_full 96 = .ok (.ixor, 1) := by decide +kernel
theorem dX0_full_97 : decode cX0_full 97 = .ok (.laload, 1) := by decide +kernel
theorem dX0_full_98 : decode cX0_full 98 = .ok (.ladd, 1) := by decide +kernel
theorem dX0_full_99 : decode cX0_full 99 = .ok (.lstore 4, 2) := by decide +kernel
theorem dX0_full_101 : decode cX0_full 101 = .ok (.iinc 6 1, 3) := by decide +kernel
theorem dX0_full_104 : decode cX0_full 104 = .ok (.goto (-45), 3) := by decide +kernel
theorem dX0_full_107 : decode cX0_full 107 = .ok (.aload_n 0, 1) := by decide +kernel
theorem dX0_full_108 : decode cX0_full 108 = .ok (.getfield 29, 3) := by decide +kernel
theorem dX0_full_111 : decode cX0_full 111 = .ok (.iload_n 3, 1) := by decide +kernel
theorem dX0_full_112 : decode cX0_full 112 = .ok (.lload 4, 2) := by decide +kernel
theorem dX0_full_114 : decode cX0_full 114 = .ok (.lastore, 1) := by decide +kernel
theorem dX0_full_115 : decode cX0_full 115 = .ok (.iinc 3 (-1), 3) := by decide +kernel
theorem dX0_full_118 : decode cX0_full 118 = .ok (.goto (-69), 3) := by decide +kernel
theorem dX0_full_121 : decode cX0_full 121 = .ok (.iinc 2 1, 3) := by decide +kernel
theorem dX0_full_124 : decode cX0_full 124 = .ok (.goto (-87), 3) := by decide +kernel
theorem dX0_full_127 : decode cX0_full 127 = .ok (.lconst 0, 1) := by decide +kernel
theorem dX0_full_128 : decode cX0_full 128 = .ok (.lstore_n 2, 1) := by decide +kernel
theorem dX0_full_129 : decode cX0_full 129 = .ok (.iconst 0, 1) := by decide +kernel
theorem dX0_full_130 : decode cX0_full 130 = .ok (.istore 4, 2) := by decide +kernel
theorem dX0_full_132 : decode cX0_full 132 = .ok (.iload 4, 2) := by decide +kernel
theorem dX0_full_134 : decode cX0_full 134 = .ok (.iload_n 1, 1) := by decide +kernel
theorem dX0_full_135 : decode cX0_full 135 = .ok (.if_icmp .ge 19, 3) := by decide +kernel
theorem dX0_full_138 : decode cX0_full 138 = .ok (.lload_n 2, 1) := by decide +kernel
theorem dX0_full_139 : decode cX0_full 139 = .ok (.aload_n 0, 1) := by decide +kernel
theorem dX0_full_140 : decode cX0_full 140 = .ok (.getfield 29, 3) := by decide +kernel
theorem dX0_full_143 : decode cX0_full 143 = .ok (.iload 4, 2) := by decide +kernel
theorem dX0_full_145 : decode cX0_full 145 = .ok (.laload, 1) := by decide +kernel
theorem dX0_full_146 : decode cX0_full 146 = .ok (.ladd, 1) := by decide +kernel
theorem dX0_full_147 : decode cX0_full 147 = .ok (.lstore_n 2, 1) := by decide +kernel
theorem dX0_full_148 : decode cX0_full 148 = .ok (.iinc 4 1, 3) := by decide +kernel
theorem dX0_full_151 : decode cX0_full 151 = .ok (.goto (-19), 3) := by decide +kernel
theorem dX0_full_154 : decode cX0_full 154 = .ok (.lload_n 2, 1) := by decide +kernel
theorem dX0_full_155 : decode cX0_full 155 = .ok (.lreturn, 1) := by decide +kernel
theorem q4 : (Jvm.Cond.initialized "MateDesk") ∈ lw_all := lw_g (lw_at lw_m0 1 rfl) rfl
theorem q7 : (Jvm.Cond.instantiable "MateDesk" (7 : Nat)) ∈ lw_all := lw_g (lw_at lw_m0 4 rfl) rfl
theorem q9 : (Jvm.Cond.instanceMethod ({ cls := "MateDesk", name := "<init>", desc := "()V" } : Jvm.MethodName)) ∈ lw_all := lw_g (lw_at lw_m0 6 rfl) rfl
theorem q10 : (Jvm.Cond.code ({ cls := "MateDesk", name := "<init>", desc := "()V" } : Jvm.MethodName) prog_1_method_1_code (1 : Nat) (Option.none : Option Jvm.ClassFile.FieldType)) ∈ lw_all := lw_g (lw_at lw_m0 7 rfl) rfl
theorem q11 : (Jvm.Cond.methodLink "MateDesk" (1 : Nat) ({ cls := "java/lang/Object", name := "<init>", desc := "()V" } : Jvm.MethodName)) ∈ lw_all := lw_g (lw_at lw_m0 8 rfl) rfl
theorem q14 : (Jvm.Cond.fieldLink "MateDesk" (7 : Nat) "MateDesk" "lefts" "I") ∈ lw_all := lw_g (lw_at lw_m0 11 rfl) rfl
theorem q15 : (Jvm.Cond.fieldLink "MateDesk" (13 : Nat) "MateDesk" "rights" "I") ∈ lw_all := lw_g (lw_at lw_m0 12 rfl) rfl
theorem q16 : (Jvm.Cond.fieldLink "MateDesk" (16 : Nat) "MateDesk" "may" "[I") ∈ lw_all := lw_g (lw_at lw_m0 13 rfl) rfl
theorem q17 : (Jvm.Cond.fieldLink "MateDesk" (20 : Nat) "MateDesk" "mate" "[I") ∈ lw_all := lw_g (lw_at lw_m0 14 rfl) rfl
theorem q18 : (Jvm.Cond.fieldLink "MateDesk" (23 : Nat) "MateDesk" "from" "[I") ∈ lw_all := lw_g (lw_at lw_m0 15 rfl) rfl
theorem q19 : (Jvm.Cond.fieldLink "MateDesk" (26 : Nat) "MateDesk" "line" "[I") ∈ lw_all := lw_g (lw_at lw_m0 16 rfl) rfl
theorem q20 : (Jvm.Cond.fieldLink "MateDesk" (29 : Nat) "MateDesk" "ways" "[J") ∈ lw_all := lw_g (lw_at lw_m0 17 rfl) rfl
theorem q21 : (Jvm.Cond.lays "MateDesk" "MateDesk" "lefts" "I") ∈ lw_all := lw_g (lw_at lw_m0 18 rfl) rfl
theorem q22 : (Jvm.Cond.soleField "MateDesk" "lefts") ∈ lw_all := lw_g (lw_at lw_m0 19 rfl) rfl
theorem q23 : (Jvm.Cond.lays "MateDesk" "MateDesk" "rights" "I") ∈ lw_all := lw_g (lw_at lw_m0 20 rfl) rfl
theorem q24 : (Jvm.Cond.soleField "MateDesk" "rights") ∈ lw_all := lw_g (lw_at lw_m0 21 rfl) rfl
theorem q25 : (Jvm.Cond.laysFinal "MateDesk" "MateDesk" "may" "[I") ∈ lw_all := lw_g (lw_at lw_m0 22 rfl) rfl
theorem q26 : (Jvm.Cond.soleField "MateDesk" "may") ∈ lw_all := lw_g (lw_at lw_m0 23 rfl) rfl
theorem q27 : (Jvm.Cond.laysFinal "MateDesk" "MateDesk" "mate" "[I") ∈ lw_all := lw_g (lw_at lw_m0 24 rfl) rfl
theorem q28 : (Jvm.Cond.soleField "MateDesk" "mate") ∈ lw_all := lw_g (lw_at lw_m0 25 rfl) rfl
theorem q29 : (Jvm.Cond.laysFinal "MateDesk" "MateDesk" "from" "[I") ∈ lw_all := lw_g (lw_at lw_m0 26 rfl) rfl
theorem q30 : (Jvm.Cond.soleField "MateDesk" "from") ∈ lw_all := lw_g (lw_at lw_m0 27 rfl) rfl
theorem q31 : (Jvm.Cond.laysFinal "MateDesk" "MateDesk" "line" "[I") ∈ lw_all := lw_g (lw_at lw_m0 28 rfl) rfl
theorem q32 : (Jvm.Cond.soleField "MateDesk" "line") ∈ lw_all := lw_g (lw_at lw_m0 29 rfl) rfl
theorem q33 : (Jvm.Cond.laysFinal "MateDesk" "MateDesk" "ways" "[J") ∈ lw_all := lw_g (lw_at lw_m0 30 rfl) rfl
theorem q34 : (Jvm.Cond.soleField "MateDesk" "ways") ∈ lw_all := lw_g (lw_at lw_m0 31 rfl) rfl
theorem q35 : (Jvm.Cond.superclass "MateDesk" "java/lang/Object") ∈ lw_all := lw_g (lw_at lw_m0 32 rfl) rfl
theorem q39 : (Jvm.Cond.instanceMethod ({ cls := "MateDesk", name := "sizes", desc := "(II)V" } : Jvm.MethodName)) ∈ lw_all := lw_g (lw_at lw_m0 36 rfl) rfl
theorem q40 : (Jvm.Cond.selects "MateDesk" ({ cls := "MateDesk", name := "sizes", desc := "(II)V" } : Jvm.MethodName) ({ cls := "MateDesk", name := "sizes", desc := "(II)V" } : Jvm.MethodName)) ∈ lw_all := lw_g (lw_at lw_m0 37 rfl) rfl
theorem q41 : (Jvm.Cond.code ({ cls := "MateDesk", name := "sizes", desc := "(II)V" } : Jvm.MethodName) prog_1_method_3_code (4 : Nat) (Option.none : Option Jvm.ClassFile.FieldType)) ∈ lw_all := lw_g (lw_at lw_m0 38 rfl) rfl
theorem q43 : (Jvm.Cond.instanceMethod ({ cls := "MateDesk", name := "may", desc := "(II)V" } : Jvm.MethodName)) ∈ lw_all := lw_g (lw_at lw_m0 40 rfl) rfl
theorem q44 : (Jvm.Cond.selects "MateDesk" ({ cls := "MateDesk", name := "may", desc := "(II)V" } : Jvm.MethodName) ({ cls := "MateDesk", name := "may", desc := "(II)V" } : Jvm.MethodName)) ∈ lw_all := lw_g (lw_at lw_m0 41 rfl) rfl
theorem q45 : (Jvm.Cond.code ({ cls := "MateDesk", name := "may", desc := "(II)V" } : Jvm.MethodName) prog_1_method_4_code (3 : Nat) (Option.none : Option Jvm.ClassFile.FieldType)) ∈ lw_all := lw_g (lw_at lw_m0 42 rfl) rfl
theorem q46 : (Jvm.Cond.methodLink "MateDesk" (34 : Nat) ({ cls := "MateDesk", name := "counted", desc := "(II)I" } : Jvm.MethodName)) ∈ lw_all := lw_g (lw_at lw_m0 43 rfl) rfl
theorem q47 : (Jvm.Cond.static ({ cls := "MateDesk", name := "counted", desc := "(II)I" } : Jvm.MethodName)) ∈ lw_all := lw_g (lw_at lw_m0 44 rfl) rfl
theorem q48 : (Jvm.Cond.code ({ cls := "MateDesk", name := "counted", desc := "(II)I" } : Jvm.MethodName) prog_1_method_2_code (2 : Nat) (Option.some Jvm.ClassFile.FieldType.int)) ∈ lw_all := lw_g (lw_at lw_m0 45 rfl) rfl
theorem q49 : (Jvm.Cond.constant "MateDesk" (33 : Nat) (2147483647 : Int32)) ∈ lw_all := lw_g (lw_at lw_m0 46 rfl) rfl
theorem q51 : (Jvm.Cond.instanceMethod ({ cls := "MateDesk", name := "not", desc := "(II)V" } : Jvm.MethodName)) ∈ lw_all := lw_g (lw_at lw_m0 48 rfl) rfl
theorem q52 : (Jvm.Cond.selects "MateDesk" ({ cls := "MateDesk", name := "not", desc := "(II)V" } : Jvm.MethodName) ({ cls := "MateDesk", name := "not", desc := "(II)V" } : Jvm.MethodName)) ∈ lw_all := lw_g (lw_at lw_m0 49 rfl) rfl
theorem q53 : (Jvm.Cond.code ({ cls := "MateDesk", name := "not", desc := "(II)V" } : Jvm.MethodName) prog_1_method_5_code (3 : Nat) (Option.none : Option Jvm.ClassFile.FieldType)) ∈ lw_all := lw_g (lw_at lw_m0 50 rfl) rfl
theorem q55 : (Jvm.Cond.instanceMethod ({ cls := "MateDesk", name := "most", desc := "()I" } : Jvm.MethodName)) ∈ lw_all := lw_g (lw_at lw_m0 52 rfl) rfl
theorem q56 : (Jvm.Cond.selects "MateDesk" ({ cls := "MateDesk", name := "most", desc := "()I" } : Jvm.MethodName) ({ cls := "MateDesk", name := "most", desc := "()I" } : Jvm.MethodName)) ∈ lw_all := lw_g (lw_at lw_m0 53 rfl) rfl
theorem q57 : (Jvm.Cond.code ({ cls := "MateDesk", name := "most", desc := "()I" } : Jvm.MethodName) prog_1_method_8_code (3 : Nat) (Option.some Jvm.ClassFile.FieldType.int)) ∈ lw_all := lw_g (lw_at lw_m0 54 rfl) rfl
theorem q58 : (Jvm.Cond.methodLink "MateDesk" (42 : Nat) ({ cls := "MateDesk", name := "grows", desc := "(I)Z" } : Jvm.MethodName)) ∈ lw_all := lw_g (lw_at lw_m0 55 rfl) rfl
theorem q59 : (Jvm.Cond.privateMethod ({ cls := "MateDesk", name := "grows", desc := "(I)Z" } : Jvm.MethodName)) ∈ lw_tbl := lw_at lw_m0 56 rfl
theorem q60 : (Jvm.Cond.instanceMethod ({ cls := "MateDesk", name := "grows", desc := "(I)Z" } : Jvm.MethodName)) ∈ lw_all := lw_g (lw_at lw_m0 57 rfl) rfl
theorem q61 : (Jvm.Cond.code ({ cls := "MateDesk", name := "grows", desc := "(I)Z" } : Jvm.MethodName) prog_1_method_6_code (6 : Nat) (Option.some Jvm.ClassFile.FieldType.boolean)) ∈ lw_all := lw_g (lw_at lw_m0 58 rfl) rfl
theorem q62 : (Jvm.Cond.methodLink "MateDesk" (38 : Nat) ({ cls := "MateDesk", name := "turn", desc := "(II)V" } : Jvm.MethodName)) ∈ lw_all := lw_g (lw_at lw_m0 59 rfl) rfl
theorem q63 : (Jvm.Cond.privateMethod ({ cls := "MateDesk", name := "turn", desc := "(II)V" } : Jvm.MethodName)) ∈ lw_tbl := lw_at lw_m0 60 rfl
theorem q64 : (Jvm.Cond.instanceMethod ({ cls := "MateDesk", name := "turn", desc := "(II)V" } : Jvm.MethodName)) ∈ lw_all := lw_g (lw_at lw_m0 61 rfl) rfl
theorem q65 : (Jvm.Cond.code ({ cls := "MateDesk", name := "turn", desc := "(II)V" } : Jvm.MethodName) prog_1_method_7_code (7 : Nat) (Option.none : Option Jvm.ClassFile.FieldType)) ∈ lw_all := lw_g (lw_at lw_m0 62 rfl) rfl
theorem q67 : (Jvm.Cond.instanceMethod ({ cls := "MateDesk", name := "watchers", desc := "()I" } : Jvm.MethodName)) ∈ lw_all := lw_g (lw_at lw_m0 64 rfl) rfl
theorem q68 : (Jvm.Cond.selects "MateDesk" ({ cls := "MateDesk", name := "watchers", desc := "()I" } : Jvm.MethodName) ({ cls := "MateDesk", name := "watchers", desc := "()I" } : Jvm.MethodName)) ∈ lw_all := lw_g (lw_at lw_m0 65 rfl) rfl
theorem q69 : (Jvm.Cond.code ({ cls := "MateDesk", name := "watchers", desc := "()I" } : Jvm.MethodName) prog_1_method_9_code (1 : Nat) (Option.some Jvm.ClassFile.FieldType.int)) ∈ lw_all := lw_g (lw_at lw_m0 66 rfl) rfl
theorem q70 : (Jvm.Cond.methodLink "MateDesk" (46 : Nat) ({ cls := "MateDesk", name := "most", desc := "()I" } : Jvm.MethodName)) ∈ lw_all := lw_g (lw_at lw_m0 67 rfl) rfl
theorem q72 : (Jvm.Cond.instanceMethod ({ cls := "MateDesk", name := "lack", desc := "()I" } : Jvm.MethodName)) ∈ lw_all := lw_g (lw_at lw_m0 69 rfl) rfl
theorem q73 : (Jvm.Cond.selects "MateDesk" ({ cls := "MateDesk", name := "lack", desc := "()I" } : Jvm.MethodName) ({ cls := "MateDesk", name := "lack", desc := "()I" } : Jvm.MethodName)) ∈ lw_all := lw_g (lw_at lw_m0 70 rfl) rfl
theorem q74 : (Jvm.Cond.code ({ cls := "MateDesk", name := "lack", desc := "()I" } : Jvm.MethodName) prog_1_method_10_code (1 : Nat) (Option.some Jvm.ClassFile.FieldType.int)) ∈ lw_all := lw_g (lw_at lw_m0 71 rfl) rfl
theorem q76 : (Jvm.Cond.instanceMethod ({ cls := "MateDesk", name := "full", desc := "()J" } : Jvm.MethodName)) ∈ lw_all := lw_g (lw_at lw_m0 73 rfl) rfl
theorem q77 : (Jvm.Cond.selects "MateDesk" ({ cls := "MateDesk", name := "full", desc := "()J" } : Jvm.MethodName) ({ cls := "MateDesk", name := "full", desc := "()J" } : Jvm.MethodName)) ∈ lw_all := lw_g (lw_at lw_m0 74 rfl) rfl
theorem q78 : (Jvm.Cond.code ({ cls := "MateDesk", name := "full", desc := "()J" } : Jvm.MethodName) prog_1_method_11_code (7 : Nat) (Option.some Jvm.ClassFile.FieldType.long)) ∈ lw_all := lw_g (lw_at lw_m0 75 rfl) rfl
theorem in_X0 : ∀ w ∈ wsX00, w ∈ lw_all := lw_in wsX00 [21, 23, 25, 27, 29, 31, 33] (by decide +kernel) (by decide +kernel)
end
section
/-! MateDeskModel -/
set_option maxRecDepth 100000
def RX1 : String := "MateDeskModel"
def TX1 : u_T := fun k => match k with
  | 0 => ("MateDeskModel", "ok", "[I", true)
  | 1 => ("MateDeskModel", "n", "I", false)
  | 2 => ("MateDeskModel", "m", "I", false)
  | 3 => ("MateDeskModel", "best", "[I", true)
  | 4 => ("MateDeskModel", "known", "Z", false)
  | 5 => ("MateDeskModel", "pairs", "I", false)
  | 6 => ("MateDeskModel", "watch", "I", false)
  | 7 => ("MateDeskModel", "lack", "I", false)
  | _ => ("MateDeskModel", "ways", "[J", true)
def tyX1 : Nat → FieldType := fun k => match k with
  | 0 => .array .int
  | 1 => .int
  | 2 => .int
  | 3 => .array .int
  | 4 => .boolean
  | 5 => .int
  | 6 => .int
  | 7 => .int
  | _ => .array .long
abbrev wsX10 : List Cond := u_ws RX1 TX1 9
theorem nmX1 : ∀ a, a < 9 → ∀ b, b < 9 → a ≠ b → (TX1 a).2.1 ≠ (TX1 b).2.1 := by decide +kernel
theorem tyX1_ok : ∀ k, k < 9 → parseFieldDescriptor (TX1 k).2.2.1 = some (tyX1 k) := by decide +kernel
abbrev cX1_init : ByteArray := prog_3_method_1_code
def yX1_init : MethodName := ⟨RX1, "<init>", "()V"⟩
theorem dX1_init_0 : decode cX1_init 0 = .ok (.aload_n 0, 1) := by decide +kernel
theorem dX1_init_1 : decode cX1_init 1 = .ok (.invokespecial 1, 3) := by decide +kernel
theorem dX1_init_4 : decode cX1_init 4 = .ok (.aload_n 0, 1) := by decide +kernel
theorem dX1_init_5 : decode cX1_init 5 = .ok (.bipush 8, 2) := by decide +kernel
theorem dX1_init_7 : decode cX1_init 7 = .ok (.newarray .int, 2) := by decide +kernel
theorem dX1_init_9 : decode cX1_init 9 = .ok (.putfield 7, 3) := by decide +kernel
theorem dX1_init_12 : decode cX1_init 12 = .ok (.aload_n 0, 1) := by decide +kernel
theorem dX1_init_13 : decode cX1_init 13 = .ok (.iconst 4, 1) := by decide +kernel
theorem dX1_init_14 : decode cX1_init 14 = .ok (.putfield 13, 3) := by decide +kernel
theorem dX1_init_17 : decode cX1_init 17 = .ok (.aload_n 0, 1) := by decide +kernel
theorem dX1_init_18 : decode cX1_init 18 = .ok (.iconst 4, 1) := by decide +kernel
theorem dX1_init_19 : decode cX1_init 19 = .ok (.putfield 17, 3) := by decide +kernel
theorem dX1_init_22 : decode cX1_init 22 = .ok (.aload_n 0, 1) := by decide +kernel
theorem dX1_init_23 : decode cX1_init 23 = .ok (.sipush 256, 3) := by decide +kernel
theorem dX1_init_26 : decode cX1_init 26 = .ok (.newarray .int, 2) := by decide +kernel
theorem dX1_init_28 : decode cX1_init 28 = .ok (.putfield 20, 3) := by decide +kernel
theorem dX1_init_31 : decode cX1_init 31 = .ok (.aload_n 0, 1) := by decide +kernel
theorem dX1_init_32 : decode cX1_init 32 = .ok (.sipush 256, 3) := by decide +kernel
theorem dX1_init_35 : decode cX1_init 35 = .ok (.newarray .long, 2) := by decide +kernel
theorem dX1_init_37 : decode cX1_init 37 = .ok (.putfield 23, 3) := by decide +kernel
theorem dX1_init_40 : decode cX1_init 40 = .ok (.return_, 1) := by decide +kernel
abbrev cX1_sizes : ByteArray := prog_3_method_2_code
def yX1_sizes : MethodName := ⟨RX1, "sizes", "(II)V"⟩
theorem dX1_sizes_0 : decode cX1_sizes 0 = .ok (.aload_n 0, 1) := by decide +kernel
theorem dX1_sizes_1 : decode cX1_sizes 1 = .ok (.iconst 1, 1) := by decide +kernel
theorem dX1_sizes_2 : decode cX1_sizes 2 = .ok (.iload_n 1, 1) := by decide +kernel
theorem dX1_sizes_3 : decode cX1_sizes 3 = .ok (.bipush 7, 2) := by decide +kernel
theorem dX1_sizes_5 : decode cX1_sizes 5 = .ok (.iand, 1) := by decide +kernel
theorem dX1_sizes_6 : decode cX1_sizes 6 = .ok (.iadd, 1) := by decide +kernel
theorem dX1_sizes_7 : decode cX1_sizes 7 = .ok (.putfield 13, 3) := by decide +kernel
theorem dX1_sizes_10 : decode cX1_sizes 10 = .ok (.aload_n 0, 1) := by decide +kernel
theorem dX1_sizes_11 : decode cX1_sizes 11 = .ok (.iconst 1, 1) := by decide +kernel
theorem dX1_sizes_12 : decode cX1_sizes 12 = .ok (.iload_n 2, 1) := by decide +kernel
theorem dX1_sizes_13 : decode cX1_sizes 13 = .ok (.bipush 7, 2) := by decide +kernel
theorem dX1_sizes_15 : decode cX1_sizes 15 = .ok (.iand, 1) := by decide +kernel
theorem dX1_sizes_16 : decode cX1_sizes 16 = .ok (.iadd, 1) := by decide +kernel
theorem dX1_sizes_17 : decode cX1_sizes 17 = .ok (.putfield 17, 3) := by decide +kernel
theorem dX1_sizes_20 : decode cX1_sizes 20 = .ok (.iconst 0, 1) := by decide +kernel
theorem dX1_sizes_21 : decode cX1_sizes 21 = .ok (.istore_n 3, 1) := by decide +kernel
theorem dX1_sizes_22 : decode cX1_sizes 22 = .ok (.iload_n 3, 1) := by decide +kernel
theorem dX1_sizes_23 : decode cX1_sizes 23 = .ok (.bipush 8, 2) := by decide +kernel
theorem dX1_sizes_25 : decode cX1_sizes 25 = .ok (.if_icmp .ge 16, 3) := by decide +kernel
theorem dX1_sizes_28 : decode cX1_sizes 28 = .ok (.aload_n 0, 1) := by decide +kernel
theorem dX1_sizes_29 : decode cX1_sizes 29 = .ok (.getfield 7, 3) := by decide +kernel
theorem dX1_sizes_32 : decode cX1_sizes 32 = .ok (.iload_n 3, 1) := by decide +kernel
theorem dX1_sizes_33 : decode cX1_sizes 33 = .ok (.iconst 0, 1) := by decide +kernel
theorem dX1_sizes_34 : decode cX1_sizes 34 = .ok (.iastore, 1) := by decide +kernel
theorem dX1_sizes_35 : decode cX1_sizes 35 = .ok (.iinc 3 1, 3) := by decide +kernel
theorem dX1_sizes_38 : decode cX1_sizes 38 = .ok (.goto (-16), 3) := by decide +kernel
theorem dX1_sizes_41 : decode cX1_sizes 41 = .ok (.aload_n 0, 1) := by decide +kernel
theorem dX1_sizes_42 : decode cX1_sizes 42 = .ok (.iconst 0, 1) := by decide +kernel
theorem dX1_sizes_43 : decode cX1_sizes 43 = .ok (.putfield 27, 3) := by decide +kernel
theorem dX1_sizes_46 : decode cX1_sizes 46 = .ok (.return_, 1) := by decide +kernel
abbrev cX1_may : ByteArray := prog_3_method_3_code
def yX1_may : MethodName := ⟨RX1, "may", "(II)V"⟩
theorem dX1_may_0 : decode cX1_may 0 = .ok (.iload_n 1, 1) := by decide +kernel
theorem dX1_may_1 : decode cX1_may 1 = .ok (.ldc 31, 2) := by decide +kernel
theorem dX1_may_3 : decode cX1_may 3 = .ok (.iand, 1) := by decide +kernel
theorem dX1_may_4 : decode cX1_may 4 = .ok (.aload_n 0, 1) := by decide +kernel
theorem dX1_may_5 : decode cX1_may 5 = .ok (.getfield 13, 3) := by decide +kernel
theorem dX1_may_8 : decode cX1_may 8 = .ok (.irem, 1) := by decide +kernel
theorem dX1_may_9 : decode cX1_may 9 = .ok (.istore_n 3, 1) := by decide +kernel
theorem dX1_may_10 : decode cX1_may 10 = .ok (.aload_n 0, 1) := by decide +kernel
theorem dX1_may_11 : decode cX1_may 11 = .ok (.getfield 7, 3) := by decide +kernel
theorem dX1_may_14 : decode cX1_may 14 = .ok (.iload_n 3, 1) := by decide +kernel
theorem dX1_may_15 : decode cX1_may 15 = .ok (.aload_n 0, 1) := by decide +kernel
theorem dX1_may_16 : decode cX1_may 16 = .ok (.getfield 7, 3) := by decide +kernel
theorem dX1_may_19 : decode cX1_may 19 = .ok (.iload_n 3, 1) := by decide +kernel
theorem dX1_may_20 : decode cX1_may 20 = .ok (.iaload, 1) := by decide +kernel
theorem dX1_may_21 : decode cX1_may 21 = .ok (.iconst 1, 1) := by decide +kernel
theorem dX1_may_22 : decode cX1_may 22 = .ok (.iload_n 2, 1) := by decide +kernel
theorem dX1_may_23 : decode cX1_may 23 = .ok (.ldc 31, 2) := by decide +kernel
theorem dX1_may_25 : decode cX1_may 25 = .ok (.iand, 1) := by decide +kernel
theorem dX1_may_26 : decode cX1_may 26 = .ok (.aload_n 0, 1) := by decide +kernel
theorem dX1_may_27 : decode cX1_may 27 = .ok (.getfield 17, 3) := by decide +kernel
theorem dX1_may_30 : decode cX1_may 30 = .ok (.irem, 1) := by decide +kernel
theorem dX1_may_31 : decode cX1_may 31 = .ok (.ishl, 1) := by decide +kernel
theorem dX1_may_32 : decode cX1_may 32 = .ok (.ior, 1) := by decide +kernel
theorem dX1_may_33 : decode cX1_may 33 = .ok (.iastore, 1) := by decide +kernel
theorem dX1_may_34 : decode cX1_may 34 = .ok (.aload_n 0, 1) := by decide +kernel
theorem dX1_may_35 : decode cX1_may 35 = .ok (.iconst 0, 1) := by decide +kernel
theorem dX1_may_36 : decode cX1_may 36 = .ok (.putfield 27, 3) := by decide +kernel
theorem dX1_may_39 : decode cX1_may 39 = .ok (.return_, 1) := by decide +kernel
abbrev cX1_not : ByteArray := prog_3_method_4_code
def yX1_not : MethodName := ⟨RX1, "not", "(II)V"⟩
theorem dX1_not_0 : decode cX1_not 0 = .ok (.iload_n 1, 1) := by decide +kernel
theorem dX1_not_1 : decode cX1_not 1 = .ok (.ldc 31, 2) := by decide +kernel
theorem dX1_not_3 : decode cX1_not 3 = .ok (.iand, 1) := by decide +kernel
theorem dX1_not_4 : decode cX1_not 4 = .ok (.aload_n 0, 1) := by decide +kernel
theorem dX1_not_5 : decode cX1_not 5 = .ok (.getfield 13, 3) := by decide +kernel
theorem dX1_not_8 : decode cX1_not 8 = .ok (.irem, 1) := by decide +kernel
theorem dX1_not_9 : decode cX1_not 9 = .ok (.istore_n 3, 1) := by decide +kernel
theorem dX1_not_10 : decode cX1_not 10 = .ok (.aload_n 0, 1) := by decide +kernel
theorem dX1_not_11 : decode cX1_not 11 = .ok (.getfield 7, 3) := by decide +kernel
theorem dX1_not_14 : decode cX1_not 14 = .ok (.iload_n 3, 1) := by decide +kernel
theorem dX1_not_15 : decode cX1_not 15 = .ok (.aload_n 0, 1) := by decide +kernel
theorem dX1_not_16 : decode cX1_not 16 = .ok (.getfield 7, 3) := by decide +kernel
theorem dX1_not_19 : decode cX1_not 19 = .ok (.iload_n 3, 1) := by decide +kernel
theorem dX1_not_20 : decode cX1_not 20 = .ok (.iaload, 1) := by decide +kernel
theorem dX1_not_21 : decode cX1_not 21 = .ok (.iconst 1, 1) := by decide +kernel
theorem dX1_not_22 : decode cX1_not 22 = .ok (.iload_n 2, 1) := by decide +kernel
theorem dX1_not_23 : decode cX1_not 23 = .ok (.ldc 31, 2) := by decide +kernel
theorem dX1_not_25 : decode cX1_not 25 = .ok (.iand, 1) := by decide +kernel
theorem dX1_not_26 : decode cX1_not 26 = .ok (.aload_n 0, 1) := by decide +kernel
theorem dX1_not_27 : decode cX1_not 27 = .ok (.getfield 17, 3) := by decide +kernel
theorem dX1_not_30 : decode cX1_not 30 = .ok (.irem, 1) := by decide +kernel
theorem dX1_not_31 : decode cX1_not 31 = .ok (.ishl, 1) := by decide +kernel
theorem dX1_not_32 : decode cX1_not 32 = .ok (.iconst (-1), 1) := by decide +kernel
theorem dX1_not_33 : decode cX1_not 33 = .ok (.ixor, 1) := by decide +kernel
theorem dX1_not_34 : decode cX1_not 34 = .ok (.iand, 1) := by decide +kernel
theorem dX1_not_35 : decode cX1_not 35 = .ok (.iastore, 1) := by decide +kernel
theorem dX1_not_36 : decode cX1_not 36 = .ok (.aload_n 0, 1) := by decide +kernel
theorem dX1_not_37 : decode cX1_not 37 = .ok (.iconst 0, 1) := by decide +kernel
theorem dX1_not_38 : decode cX1_not 38 = .ok (.putfield 27, 3) := by decide +kernel
theorem dX1_not_41 : decode cX1_not 41 = .ok (.return_, 1) := by decide +kernel
abbrev cX1_most : ByteArray := prog_3_method_7_code
def yX1_most : MethodName := ⟨RX1, "most", "()I"⟩
theorem dX1_most_0 : decode cX1_most 0 = .ok (.aload_n 0, 1) := by decide +kernel
theorem dX1_most_1 : decode cX1_most 1 = .ok (.invokevirtual 45, 3) := by decide +kernel
theorem dX1_most_4 : decode cX1_most 4 = .ok (.aload_n 0, 1) := by decide +kernel
theorem dX1_most_5 : decode cX1_most 5 = .ok (.getfield 36, 3) := by decide +kernel
theorem dX1_most_8 : decode cX1_most 8 = .ok (.ireturn, 1) := by decide +kernel
abbrev cX1_reckon : ByteArray := prog_3_method_6_code
def yX1_reckon : MethodName := ⟨RX1, "reckon", "()V"⟩
theorem dX1_reckon_0 : decode cX1_reckon 0 = .ok (.aload_n 0, 1) := by decide +kernel
theorem dX1_reckon_1 : decode cX1_reckon 1 = .ok (.getfield 27, 3) := by decide +kernel
theorem dX1_reckon_4 : decode cX1_reckon 4 = .ok (.ifCond .eq 4, 3) := by decide +kernel
theorem dX1_reckon_7 : decode cX1_reckon 7 = .ok (.return_, 1) := by decide +kernel
theorem dX1_reckon_8 : decode cX1_reckon 8 = .ok (.aload_n 0, 1) := by decide +kernel
theorem dX1_reckon_9 : decode cX1_reckon 9 = .ok (.iconst 1, 1) := by decide +kernel
theorem dX1_reckon_10 : decode cX1_reckon 10 = .ok (.putfield 27, 3) := by decide +kernel
theorem dX1_reckon_13 : decode cX1_reckon 13 = .ok (.iconst 0, 1) := by decide +kernel
theorem dX1_reckon_14 : decode cX1_reckon 14 = .ok (.istore_n 1, 1) := by decide +kernel
theorem dX1_reckon_15 : decode cX1_reckon 15 = .ok (.iload_n 1, 1) := by decide +kernel
theorem dX1_reckon_16 : decode cX1_reckon 16 = .ok (.sipush 256, 3) := by decide +kernel
theorem dX1_reckon_19 : decode cX1_reckon 19 = .ok (.if_icmp .ge 24, 3) := by decide +kernel
theorem dX1_reckon_22 : decode cX1_reckon 22 = .ok (.aload_n 0, 1) := by decide +kernel
theorem dX1_reckon_23 : decode cX1_reckon 23 = .ok (.getfield 20, 3) := by decide +kernel
theorem dX1_reckon_26 : decode cX1_reckon 26 = .ok (.iload_n 1, 1) := by decide +kernel
theorem dX1_reckon_27 : decode cX1_reckon 27 = .ok (.iload_n 1, 1) := by decide +kernel
theorem dX1_reckon_28 : decode cX1_reckon 28 = .ok (.ifCond .ne 7, 3) := by decide +kernel
theorem dX1_reckon_31 : decode cX1_reckon 31 = .ok (.iconst 0, 1) := by decide +kernel
theorem dX1_reckon_32 : decode cX1_reckon 32 = .ok (.goto 4, 3) := by decide +kernel
theorem dX1_reckon_35 : decode cX1_reckon 35 = .ok (.iconst (-1), 1) := by decide +kernel
theorem dX1_reckon_36 : decode cX1_reckon 36 = .ok (.iastore, 1) := by decide +kernel
theorem dX1_reckon_37 : decode cX1_reckon 37 = .ok (.iinc 1 1, 3) := by decide +kernel
theorem dX1_reckon_40 : decode cX1_reckon 40 = .ok (.goto (-25), 3) := by decide +kernel
theorem dX1_reckon_43 : decode cX1_reckon 43 = .ok (.iconst 0, 1) := by decide +kernel
theorem dX1_reckon_44 : decode cX1_reckon 44 = .ok (.istore_n 1, 1) := by decide +kernel
theorem dX1_reckon_45 : decode cX1_reckon 45 = .ok (.iload_n 1, 1) := by decide +kernel
theorem dX1_reckon_46 : decode cX1_reckon 46 = .ok (.aload_n 0, 1) := by decide +kernel
theorem dX1_reckon_47 : decode cX1_reckon 47 = .ok (.getfield 13, 3) := by decide +kernel
theorem dX1_reckon_50 : decode cX1_reckon 50 = .ok (.if_icmp .ge 90, 3) := by decide +kernel
theorem dX1_reckon_53 : decode cX1_reckon 53 = .ok (.iconst 1, 1) := by decide +kernel
theorem dX1_reckon_54 : decode cX1_reckon 54 = .ok (.aload_n 0, 1) := by decide +kernel
theorem dX1_reckon_55 : decode cX1_reckon 55 = .ok (.getfield 17, 3) := by decide +kernel
theorem dX1_reckon_58 : decode cX1_reckon 58 = .ok (.ishl, 1) := by decide +kernel
theorem dX1_reckon_59 : decode cX1_reckon 59 = .ok (.iconst 1, 1) := by decide +kernel
theorem dX1_reckon_60 : decode cX1_reckon 60 = .ok (.isub, 1) := by decide +kernel
theorem dX1_reckon_61 : decode cX1_reckon 61 = .ok (.istore_n 2, 1) := by decide +kernel
theorem dX1_reckon_62 : decode cX1_reckon 62 = .ok (.iload_n 2, 1) := by decide +kernel
theorem dX1_reckon_63 : decode cX1_reckon 63 = .ok (.ifCond .le 71, 3) := by decide +kernel
theorem dX1_reckon_66 : decode cX1_reckon 66 = .ok (.iconst 0, 1) := by decide +kernel
theorem dX1_reckon_67 : decode cX1_reckon 67 = .ok (.istore_n 3, 1) := by decide +kernel
theorem dX1_reckon_68 : decode cX1_reckon 68 = .ok (.iload_n 3, 1) := by decide +kernel
theorem dX1_reckon_69 : decode cX1_reckon 69 = .ok (.aload_n 0, 1) := by decide +kernel
theorem dX1_reckon_70 : decode cX1_reckon 70 = .ok (.getfield 17, 3) := by decide +kernel
theorem dX1_reckon_73 : decode cX1_reckon 73 = .ok (.if_icmp .ge 55, 3) := by decide +kernel
theorem dX1_reckon_76 : decode cX1_reckon 76 = .ok (.iload_n 2, 1) := by decide +kernel
theorem dX1_reckon_77 : decode cX1_reckon 77 = .ok (.iload_n 3, 1) := by decide +kernel
theorem dX1_reckon_78 : decode cX1_reckon 78 = .ok (.ishr, 1) := by decide +kernel
theorem dX1_reckon_79 : decode cX1_reckon 79 = .ok (.iconst 1, 1) := by decide +kernel
theorem dX1_reckon_80 : decode cX1_reckon 80 = .ok (.iand, 1) := by decide +kernel
theorem dX1_reckon_81 : decode cX1_reckon 81 = .ok (.ifCond .eq 41, 3) := by decide +kernel
theorem dX1_reckon_84 : decode cX1_reckon 84 = .ok (.aload_n 0, 1) := by decide +kernel
theorem dX1_reckon_85 : decode cX1_reckon 85 = .ok (.getfield 7, 3) := by decide +kernel
theorem dX1_reckon_88 : decode cX1_reckon 88 = .ok (.iload_n 1, 1) := by decide +kernel
theorem dX1_reckon_89 : decode cX1_reckon 89 = .ok (.iaload, 1) := by decide +kernel
theorem dX1_reckon_90 : decode cX1_reckon 90 = .ok (.iload_n 3, 1) := by decide +kernel
theorem dX1_reckon_91 : decode cX1_reckon 91 = .ok (.ishr, 1) := by decide +kernel
theorem dX1_reckon_92 : decode cX1_reckon 92 = .ok (.iconst 1, 1) := by decide +kernel
theorem dX1_reckon_93 : decode cX1_reckon 93 = .ok (.iand, 1) := by decide +kernel
theorem dX1_reckon_94 : decode cX1_reckon 94 = .ok (.ifCond .eq 28, 3) := by decide +kernel
theorem dX1_reckon_97 : decode cX1_reckon 97 = .ok (.aload_n 0, 1) := by decide +kernel
theorem dX1_reckon_98 : decode cX1_reckon 98 = .ok (.getfield 20, 3) := by decide +kernel
theorem dX1_reckon_101 : decode cX1_reckon 101 = .ok (.iload_n 2, 1) := by decide +kernel
theorem dX1_reckon_102 : decode cX1_reckon 102 = .ok (.iconst 1, 1) := by decide +kernel
theorem dX1_reckon_103 : decode cX1_reckon 103 = .ok (.iload_n 3, 1) := by decide +kernel
theorem dX1_reckon_104 : decode cX1_reckon 104 = .ok (.ishl, 1) := by decide +kernel
theorem dX1_reckon_105 : decode cX1_reckon 105 = .ok (.iconst (-1), 1) := by decide +kernel
theorem dX1_reckon_106 : decode cX1_reckon 106 = .ok (.ixor, 1) := by decide +kernel
theorem dX1_reckon_107 : decode cX1_reckon 107 = .ok (.iand, 1) := by decide +kernel
theorem dX1_reckon_108 : decode cX1_reckon 108 = .ok (.iaload, 1) := by decide +kernel
theorem dX1_reckon_109 : decode cX1_reckon 109 = .ok (.ifCond .lt 13, 3) := by decide +kernel
theorem dX1_reckon_112 : decode cX1_reckon 112 = .ok (.aload_n 0, 1) := by decide +kernel
theorem dX1_reckon_113 : decode cX1_reckon 113 = .ok (.getfield 20, 3) := by decide +kernel
theorem dX1_reckon_116 : decode cX1_reckon 116 = .ok (.iload_n 2, 1) := by decide +kernel
theorem dX1_reckon_117 : decode cX1_reckon 117 = .ok (.iload_n 2, 1) := by decide +kernel
theorem dX1_reckon_118 : decode cX1_reckon 118 = .ok (.invokestatic 32, 3) := by decide +kernel
theorem dX1_reckon_121 : decode cX1_reckon 121 = .ok (.iastore, 1) := by decide +kernel
theorem dX1_reckon_122 : decode cX1_reckon 122 = .ok (.iinc 3 1, 3) := by decide +kernel
theorem dX1_reckon_125 : decode cX1_reckon 125 = .ok (.goto (-57), 3) := by decide +kernel
theorem dX1_reckon_128 : decode cX1_reckon 128 = .ok (.iinc 2 (-1), 3) := by decide +kernel
theorem dX1_reckon_131 : decode cX1_reckon 131 = .ok (.goto (-69), 3) := by decide +kernel
theorem dX1_reckon_134 : decode cX1_reckon 134 = .ok (.iinc 1 1, 3) := by decide +kernel
theorem dX1_reckon_137 : decode cX1_reckon 137 = .ok (.goto (-92), 3) := by decide +kernel
theorem dX1_reckon_140 : decode cX1_reckon 140 = .ok (.aload_n 0, 1) := by decide +kernel
theorem dX1_reckon_141 : decode cX1_reckon 141 = .ok (.iconst 0, 1) := by decide +kernel
theorem dX1_reckon_142 : decode cX1_reckon 142 = .ok (.putfield 36, 3) := by decide +kernel
theorem dX1_reckon_145 : decode cX1_reckon 145 = .ok (.iconst 0, 1) := by decide +kernel
theorem dX1_reckon_146 : decode cX1_reckon 146 = .ok (.istore_n 1, 1) := by decide +kernel
theorem dX1_reckon_147 : decode cX1_reckon 147 = .ok (.iload_n 1, 1) := by decide +kernel
theorem dX1_reckon_148 : decode cX1_reckon 148 = .ok (.iconst 1, 1) := by decide +kernel
theorem dX1_reckon_149 : decode cX1_reckon 149 = .ok (.aload_n 0, 1) := by decide +kernel
theorem dX1_reckon_150 : decode cX1_reckon 150 = .ok (.getfield 17, 3) := by decide +kernel
theorem dX1_reckon_153 : decode cX1_reckon 153 = .ok (.ishl, 1) := by decide +kernel
theorem dX1_reckon_154 : decode cX1_reckon 154 = .ok (.if_icmp .ge 39, 3) := by decide +kernel
theorem dX1_reckon_157 : decode cX1_reckon 157 = .ok (.aload_n 0, 1) := by decide +kernel
theorem dX1_reckon_158 : decode cX1_reckon 158 = .ok (.aload_n 0, 1) := by decide +kernel
theorem dX1_reckon_159 : decode cX1_reckon 159 = .ok (.getfield 20, 3) := by decide +kernel
theorem dX1_reckon_162 : decode cX1_reckon 162 = .ok (.iload_n 1, 1) := by decide +kernel
theorem dX1_reckon_163 : decode cX1_reckon 163 = .ok (.iaload, 1) := by decide +kernel
theorem dX1_reckon_164 : decode cX1_reckon 164 = .ok (.aload_n 0, 1) := by decide +kernel
theorem dX1_reckon_165 : decode cX1_reckon 165 = .ok (.getfield 36, 3) := by decide +kernel
theorem dX1_reckon_168 : decode cX1_reckon 168 = .ok (.if_icmp .le 12, 3) := by decide +kernel
theorem dX1_reckon_171 : decode cX1_reckon 171 = .ok (.aload_n 0, 1) := by decide +kernel
theorem dX1_reckon_172 : decode cX1_reckon 172 = .ok (.getfield 20, 3) := by decide +kernel
theorem dX1_reckon_175 : decode cX1_reckon 175 = .ok (.iload_n 1, 1) := by decide +kernel
theorem dX1_reckon_176 : decode cX1_reckon 176 = .ok (.iaload, 1) := by decide +kernel
theorem dX1_reckon_177 : decode cX1_reckon 177 = .ok (.goto 7, 3) := by decide +kernel
theorem dX1_reckon_180 : decode cX1_reckon 180 = .ok (.aload_n 0, 1) := by decide +kernel
theorem dX1_reckon_181 : decode cX1_reckon 181 = .ok (.getfield 36, 3) := by decide +kernel
theorem dX1_reckon_184 : decode cX1_reckon 184 = .ok (.putfield 36, 3) := by decide +kernel
theorem dX1_reckon_187 : decode cX1_reckon 187 = .ok (.iinc 1 1, 3) := by decide +kernel
theorem dX1_reckon_190 : decode cX1_reckon 190 = .ok (.goto (-43), 3) := by decide +kernel
theorem dX1_reckon_193 : decode cX1_reckon 193 = .ok (.aload_n 0, 1) := by decide +kernel
theorem dX1_reckon_194 : decode cX1_reckon 194 = .ok (.bipush 99, 2) := by decide +kernel
theorem dX1_reckon_196 : decode cX1_reckon 196 = .ok (.putfield 39, 3) := by decide +kernel
theorem dX1_reckon_199 : decode cX1_reckon 199 = .ok (.aload_n 0, 1) := by decide +kernel
theorem dX1_reckon_200 : decode cX1_reckon 200 = .ok (.iconst 0, 1) := by decide +kernel
theorem dX1_reckon_201 : decode cX1_reckon 201 = .ok (.putfield 42, 3) := by decide +kernel
theorem dX1_reckon_204 : decode cX1_reckon 204 = .ok (.iconst 0, 1) := by decide +kernel
theorem dX1_reckon_205 : decode cX1_reckon 205 = .ok (.istore_n 1, 1) := by decide +kernel
theorem dX1_reckon_206 : decode cX1_reckon 206 = .ok (.iload_n 1, 1) := by decide +kernel
theorem dX1_reckon_207 : decode cX1_reckon 207 = .ok (.iconst 1, 1) := by decide +kernel
theorem dX1_reckon_208 : decode cX1_reckon 208 = .ok (.aload_n 0, 1) := by decide +kernel
theorem dX1_reckon_209 : decode cX1_reckon 209 = .ok (.getfield 13, 3) := by decide +kernel
theorem dX1_reckon_212 : decode cX1_reckon 212 = .ok (.ishl, 1) := by decide +kernel
theorem dX1_reckon_213 : decode cX1_reckon 213 = .ok (.if_icmp .ge 121, 3) := by decide +kernel
theorem dX1_reckon_216 : decode cX1_reckon 216 = .ok (.iconst 0, 1) := by decide +kernel
theorem dX1_reckon_217 : decode cX1_reckon 217 = .ok (.istore_n 2, 1) := by decide +kernel
theorem dX1_reckon_218 : decode cX1_reckon 218 = .ok (.iconst 0, 1) := by decide +kernel
theorem dX1_reckon_219 : decode cX1_reckon 219 = .ok (.istore_n 3, 1) := by decide +kernel
theorem dX1_reckon_220 : decode cX1_reckon 220 = .ok (.iconst 0, 1) := by decide +kernel
theorem dX1_reckon_221 : decode cX1_reckon 221 = .ok (.istore 4, 2) := by decide +kernel
theorem dX1_reckon_223 : decode cX1_reckon 223 = .ok (.iload 4, 2) := by decide +kernel
theorem dX1_reckon_225 : decode cX1_reckon 225 = .ok (.aload_n 0, 1) := by decide +kernel
theorem dX1_reckon_226 : decode cX1_reckon 226 = .ok (.getfield 13, 3) := by decide +kernel
theorem dX1_reckon_229 : decode cX1_reckon 229 = .ok (.if_icmp .ge 41, 3) := by decide +kernel
theorem dX1_reckon_232 : decode cX1_reckon 232 = .ok (.iload_n 1, 1) := by decide +kernel
theorem dX1_reckon_233 : decode cX1_reckon 233 = .ok (.iload 4, 2) := by decide +kernel
theorem dX1_reckon_235 : decode cX1_reckon 235 = .ok (.ishr, 1) := by decide +kernel
theorem dX1_reckon_236 : decode cX1_reckon 236 = .ok (.iconst 1, 1) := by decide +kernel
theorem dX1_reckon_237 : decode cX1_reckon 237 = .ok (.iand, 1) := by decide +kernel
theorem dX1_reckon_238 : decode cX1_reckon 238 = .ok (.ifCond .ne 16, 3) := by decide +kernel
theorem dX1_reckon_241 : decode cX1_reckon 241 = .ok (.iload_n 3, 1) := by decide +kernel
theorem dX1_reckon_242 : decode cX1_reckon 242 = .ok (.aload_n 0, 1) := by decide +kernel
theorem dX1_reckon_243 : decode cX1_reckon 243 = .ok (.getfield 7, 3) := by decide +kernel
theorem dX1_reckon_246 : decode cX1_reckon 246 = .ok (.iload 4, 2) := by decide +kernel
theorem dX1_reckon_248 : decode cX1_reckon 248 = .ok (.iaload, 1) := by decide +kernel
theorem dX1_reckon_249 : decode cX1_reckon 249 = .ok (.ior, 1) := by decide +kernel
theorem dX1_reckon_250 : decode cX1_reckon 250 = .ok (.istore_n 3, 1) := by decide +kernel
theorem dX1_reckon_251 : decode cX1_reckon 251 = .ok (.goto 13, 3) := by decide +kernel
theorem dX1_reckon_254 : decode cX1_reckon 254 = .ok (.iload_n 2, 1) := by decide +kernel
theorem dX1_reckon_255 : decode cX1_reckon 255 = .ok (.aload_n 0, 1) := by decide +kernel
theorem dX1_reckon_256 : decode cX1_reckon 256 = .ok (.getfield 7, 3) := by decide +kernel
theorem dX1_reckon_259 : decode cX1_reckon 259 = .ok (.iload 4, 2) := by decide +kernel
theorem dX1_reckon_261 : decode cX1_reckon 261 = .ok (.iaload, 1) := by decide +kernel
theorem dX1_reckon_262 : decode cX1_reckon 262 = .ok (.ior, 1) := by decide +kernel
theorem dX1_reckon_263 : decode cX1_reckon 263 = .ok (.istore_n 2, 1) := by decide +kernel
theorem dX1_reckon_264 : decode cX1_reckon 264 = .ok (.iinc 4 1, 3) := by decide +kernel
theorem dX1_reckon_267 : decode cX1_reckon 267 = .ok (.goto (-44), 3) := by decide +kernel
theorem dX1_reckon_270 : decode cX1_reckon 270 = .ok (.iload_n 1, 1) := by decide +kernel
theorem dX1_reckon_271 : decode cX1_reckon 271 = .ok (.invokestatic 32, 3) := by decide +kernel
theorem dX1_reckon_274 : decode cX1_reckon 274 = .ok (.iload_n 3, 1) := by decide +kernel
theorem dX1_reckon_275 : decode cX1_reckon 275 = .ok (.invokestatic 32, 3) := by decide +kernel
theorem dX1_reckon_278 : decode cX1_reckon 278 = .ok (.iadd, 1) := by decide +kernel
theorem dX1_reckon_279 : decode cX1_reckon 279 = .ok (.aload_n 0, 1) := by decide +kernel
theorem dX1_reckon_280 : decode cX1_reckon 280 = .ok (.getfield 39, 3) := by decide +kernel
theorem dX1_reckon_283 : decode cX1_reckon 283 = .ok (.if_icmp .ge 16, 3) := by decide +kernel
theorem dX1_reckon_286 : decode cX1_reckon 286 = .ok (.aload_n 0, 1) := by decide +kernel
theorem dX1_reckon_287 : decode cX1_reckon 287 = .ok (.iload_n 1, 1) := by decide +kernel
theorem dX1_reckon_288 : decode cX1_reckon 288 = .ok (.invokestatic 32, 3) := by decide +kernel
theorem dX1_reckon_291 : decode cX1_reckon 291 = .ok (.iload_n 3, 1) := by decide +kernel
theorem dX1_reckon_292 : decode cX1_reckon 292 = .ok (.invokestatic 32, 3) := by decide +kernel
theorem dX1_reckon_295 : decode cX1_reckon 295 = .ok (.iadd, 1) := by decide +kernel
theorem dX1_reckon_296 : decode cX1_reckon 296 = .ok (.putfield 39, 3) := by decide +kernel
theorem dX1_reckon_299 : decode cX1_reckon 299 = .ok (.iload_n 1, 1) := by decide +kernel
theorem dX1_reckon_300 : decode cX1_reckon 300 = .ok (.invokestatic 32, 3) := by decide +kernel
theorem dX1_reckon_303 : decode cX1_reckon 303 = .ok (.iload_n 2, 1) := by decide +kernel
theorem dX1_reckon_304 : decode cX1_reckon 304 = .ok (.invokestatic 32, 3) := by decide +kernel
theorem dX1_reckon_307 : decode cX1_reckon 307 = .ok (.isub, 1) := by decide +kernel
theorem dX1_reckon_308 : decode cX1_reckon 308 = .ok (.aload_n 0, 1) := by decide +kernel
theorem dX1_reckon_309 : decode cX1_reckon 309 = .ok (.getfield 42, 3) := by decide +kernel
theorem dX1_reckon_312 : decode cX1_reckon 312 = .ok (.if_icmp .le 16, 3) := by decide +kernel
theorem dX1_reckon_315 : decode cX1_reckon 315 = .ok (.aload_n 0, 1) := by decide +kernel
theorem dX1_reckon_316 : decode cX1_reckon 316 = .ok (.iload_n 1, 1) := by decide +kernel
theorem dX1_reckon_317 : decode cX1_reckon 317 = .ok (.invokestatic 32, 3) := by decide +kernel
theorem dX1_reckon_320 : decode cX1_reckon 320 = .ok (.iload_n 2, 1) := by decide +kernel
theorem dX1_reckon_321 : decode cX1_reckon 321 = .ok (.invokestatic 32, 3) := by decide +kernel
theorem dX1_reckon_324 : decode cX1_reckon 324 = .ok (.isub, 1) := by decide +kernel
theorem dX1_reckon_325 : decode cX1_reckon 325 = .ok (.putfield 42, 3) := by decide +kernel
theorem dX1_reckon_328 : decode cX1_reckon 328 = .ok (.iinc 1 1, 3) := by decide +kernel
theorem dX1_reckon_331 : decode cX1_reckon 331 = .ok (.goto (-125), 3) := by decide +kernel
theorem dX1_reckon_334 : decode cX1_reckon 334 = .ok (.return_, 1) := by decide +kernel
abbrev cX1_count : ByteArray := prog_3_method_5_code
def yX1_count : MethodName := ⟨RX1, "count", "(I)I"⟩
theorem dX1_count_0 : decode cX1_count 0 = .ok (.iconst 0, 1) := by decide +kernel
theorem dX1_count_1 : decode cX1_count 1 = .ok (.istore_n 1, 1) := by decide +kernel
theorem dX1_count_2 : decode cX1_count 2 = .ok (.iload_n 0, 1) := by decide +kernel
theorem dX1_count_3 : decode cX1_count 3 = .ok (.istore_n 2, 1) := by decide +kernel
theorem dX1_count_4 : decode cX1_count 4 = .ok (.iload_n 2, 1) := by decide +kernel
theorem dX1_count_5 : decode cX1_count 5 = .ok (.ifCond .eq 16, 3) := by decide +kernel
theorem dX1_count_8 : decode cX1_count 8 = .ok (.iload_n 2, 1) := by decide +kernel
theorem dX1_count_9 : decode cX1_count 9 = .ok (.iload_n 2, 1) := by decide +kernel
theorem dX1_count_10 : decode cX1_count 10 = .ok (.iconst 1, 1) := by decide +kernel
theorem dX1_count_11 : decode cX1_count 11 = .ok (.isub, 1) := by decide +kernel
theorem dX1_count_12 : decode cX1_count 12 = .ok (.iand, 1) := by decide +kernel
theorem dX1_count_13 : decode cX1_count 13 = .ok (.istore_n 2, 1) := by decide +kernel
theorem dX1_count_14 : decode cX1_count 14 = .ok (.iload_n 1, 1) := by decide +kernel
theorem dX1_count_15 : decode cX1_count 15 = .ok (.iconst 1, 1) := by decide +kernel
theorem dX1_count_16 : decode cX1_count 16 = .ok (.iadd, 1) := by decide +kernel
theorem dX1_count_17 : decode cX1_count 17 = .ok (.istore_n 1, 1) := by decide +kernel
theorem dX1_count_18 : decode cX1_count 18 = .ok (.goto (-14), 3) := by decide +kernel
theorem dX1_count_21 : decode cX1_count 21 = .ok (.iload_n 1, 1) := by decide +kernel
theorem dX1_count_22 : decode cX1_count 22 = .ok (.ireturn, 1) := by decide +kernel
abbrev cX1_watchers : ByteArray := prog_3_method_8_code
def yX1_watchers : MethodName := ⟨RX1, "watchers", "()I"⟩
theorem dX1_watchers_0 : decode cX1_watchers 0 = .ok (.aload_n 0, 1) := by decide +kernel
theorem dX1_watchers_1 : decode cX1_watchers 1 = .ok (.invokevirtual 45, 3) := by decide +kernel
theorem dX1_watchers_4 : decode cX1_watchers 4 = .ok (.aload_n 0, 1) := by decide +kernel
theorem dX1_watchers_5 : decode cX1_watchers 5 = .ok (.getfield 39, 3) := by decide +kernel
theorem dX1_watchers_8 : decode cX1_watchers 8 = .ok (.ireturn, 1) := by decide +kernel
abbrev cX1_lack : ByteArray := prog_3_method_9_code
def yX1_lack : MethodName := ⟨RX1, "lack", "()I"⟩
theorem dX1_lack_0 : decode cX1_lack 0 = .ok (.aload_n 0, 1) := by decide +kernel
theorem dX1_lack_1 : decode cX1_lack 1 = .ok (.invokevirtual 45, 3) := by decide +kernel
theorem dX1_lack_4 : decode cX1_lack 4 = .ok (.aload_n 0, 1) := by decide +kernel
theorem dX1_lack_5 : decode cX1_lack 5 = .ok (.getfield 42, 3) := by decide +kernel
theorem dX1_lack_8 : decode cX1_lack 8 = .ok (.ireturn, 1) := by decide +kernel
abbrev cX1_full : ByteArray := prog_3_method_10_code
def yX1_full : MethodName := ⟨RX1, "full", "()J"⟩
theorem dX1_full_0 : decode cX1_full 0 = .ok (.aload_n 0, 1) := by decide +kernel
theorem dX1_full_1 : decode cX1_full 1 = .ok (.getfield 13, 3) := by decide +kernel
theorem dX1_full_4 : decode cX1_full 4 = .ok (.aload_n 0, 1) := by decide +kernel
theorem dX1_full_5 : decode cX1_full 5 = .ok (.getfield 17, 3) := by decide +kernel
theorem dX1_full_8 : decode cX1_full 8 = .ok (.if_icmp .le 5, 3) := by decide +kernel
theorem dX1_full_11 : decode cX1_full 11 = .ok (.lconst 0, 1) := by decide +kernel
theorem dX1_full_12 : decode cX1_full 12 = .ok (.lreturn, 1) := by decide +kernel
theorem dX1_full_13 : decode cX1_full 13 = .ok (.iconst 0, 1) := by decide +kernel
theorem dX1_full_14 : decode cX1_full 14 = .ok (.istore_n 1, 1) := by decide +kernel
theorem dX1_full_15 : decode cX1_full 15 = .ok (.iload_n 1, 1) := by decide +kernel
theorem dX1_full_16 : decode cX1_full 16 = .ok (.sipush 256, 3) := by decide +kernel
theorem dX1_full_19 : decode cX1_full 19 = .ok (.if_icmp .ge 24, 3) := by decide +kernel
theorem dX1_full_22 : decode cX1_full 22 = .ok (.aload_n 0, 1) := by decide +kernel
theorem dX1_full_23 : decode cX1_full 23 = .ok (.getfield 23, 3) := by decide +kernel
theorem dX1_full_26 : decode cX1_full 26 = .ok (.iload_n 1, 1) := by decide +kernel
theorem dX1_full_27 : decode cX1_full 27 = .ok (.iload_n 1, 1) := by decide +kernel
theorem dX1_full_28 : decode cX1_full 28 = .ok (.ifCond .ne 7, 3) := by decide +kernel
theorem dX1_full_31 : decode cX1_full 31 = .ok (.lconst 1, 1) := by decide +kernel
theorem dX1_full_32 : decode cX1_full 32 = .ok (.goto 4, 3) := by decide +kernel
theorem dX1_full_35 : decode cX1_full 35 = .ok (.lconst 0, 1) := by decide +kernel
theorem dX1_full_36 : decode cX1_full 36 = .ok (.lastore, 1) := by decide +kernel
theorem dX1_full_37 : decode cX1_full 37 = .ok (.iinc 1 1, 3) := by decide +kernel
theorem dX1_full_40 : decode cX1_full 40 = .ok (.goto (-25), 3) := by decide +kernel
theorem dX1_full_43 : decode cX1_full 43 = .ok (.iconst 0, 1) := by decide +kernel
theorem dX1_full_44 : decode cX1_full 44 = .ok (.istore_n 1, 1) := by decide +kernel
theorem dX1_full_45 : decode cX1_full 45 = .ok (.iload_n 1, 1) := by decide +kernel
theorem dX1_full_46 : decode cX1_full 46 = .ok (.aload_n 0, 1) := by decide +kernel
theorem dX1_full_47 : decode cX1_full 47 = .ok (.getfield 13, 3) := by decide +kernel
theorem dX1_full_50 : decode cX1_full 50 = .ok (.if_icmp .ge 104, 3) := by decide +kernel
theorem dX1_full_53 : decode cX1_full 53 = .ok (.iconst 1, 1) := by decide +kernel
theorem dX1_full_54 : decode cX1_full 54 = .ok (.aload_n 0, 1) := by decide +kernel
theorem dX1_full_55 : decode cX1_full 55 = .ok (.getfield 17, 3) := by decide +kernel
theorem dX1_full_58 : decode cX1_full 58 = .ok (.ishl, 1) := by decide +kernel
theorem dX1_full_59 : decode cX1_full 59 = .ok (.iconst 1, 1) := by decide +kernel
theorem dX1_full_60 : decode cX1_full 60 = .ok (.isub, 1) := by decide +kernel
theorem dX1_full_61 : decode cX1_full 61 = .ok (.istore_n 2, 1) := by decide +kernel
theorem dX1_full_62 : decode cX1_full 62 = .ok (.iload_n 2, 1) := by decide +kernel
theorem dX1_full_63 : decode cX1_full 63 = .ok (.ifCond .lt 85, 3) := by decide +kernel
theorem dX1_full_66 : decode cX1_full 66 = .ok (.lconst 0, 1) := by decide +kernel
theorem dX1_full_67 : decode cX1_full 67 = .ok (.lstore_n 3, 1) := by decide +kernel
theorem dX1_full_68 : decode cX1_full 68 = .ok (.iload_n 2, 1) := by decide +kernel
theorem dX1_full_69 : decode cX1_full 69 = .ok (.invokestatic 32, 3) := by decide +kernel
theorem dX1_full_72 : decode cX1_full 72 = .ok (.iload_n 1, 1) := by decide +kernel
theorem dX1_full_73 : decode cX1_full 73 = .ok (.iconst 1, 1) := by decide +kernel
theorem dX1_full_74 : decode cX1_full 74 = .ok (.iadd, 1) := by decide +kernel
theorem dX1_full_75 : decode cX1_full 75 = .ok (.if_icmp .ne 67, 3) := by decide +kernel
theorem dX1_full_78 : decode cX1_full 78 = .ok (.iconst 0, 1) := by decide +kernel
theorem dX1_full_79 : decode cX1_full 79 = .ok (.istore 5, 2) := by decide +kernel
theorem dX1_full_81 : decode cX1_full 81 = .ok (.iload 5, 2) := by decide +kernel
theorem dX1_full_83 : decode cX1_full 83 = .ok (.aload_n 0, 1) := by decide +kernel
theorem dX1_full_84 : decode cX1_full 84 = .ok (.getfield 17, 3) := by decide +kernel
theorem dX1_full_87 : decode cX1_full 87 = .ok (.if_icmp .ge 48, 3) := by decide +kernel
theorem dX1_full_90 : decode cX1_full 90 = .ok (.iload_n 2, 1) := by decide +kernel
theorem dX1_full_91 : decode cX1_full 91 = .ok (.iload 5, 2) := by decide +kernel
theorem dX1_full_93 : decode cX1_full 93 = .ok (.ishr, 1) := by decide +kernel
theorem dX1_full_94 : decode cX1_full 94 = .ok (.iconst 1, 1) := by decide +kernel
theorem dX1_full_95 : decode cX1_full 95 = .ok (.iand, 1) := by decide +kernel
theorem dX1_full_96 : decode cX1_full 96 = .ok (.ifCond .eq 33, 3) := by decide +kernel
theorem dX1_full_99 : decode cX1_full 99 = .ok (.aload_n 0, 1) := by decide +kernel
theorem dX1_full_100 : decode cX1_full 100 = .ok (.getfield 7, 3) := by decide +kernel
theorem dX1_full_103 : decode cX1_full 103 = .ok (.iload_n 1, 1) := by decide +kernel
theorem dX1_full_104 : decode cX1_full 104 = .ok (.iaload, 1) := by decide +kernel
theorem dX1_full_105 : decode cX1_full 105 = .ok (.iload 5, 2) := by decide +kernel
theorem dX1_full_107 : decode cX1_full 107 = .ok (.ishr, 1) := by decide +kernel
theorem dX1_full_108 : decode cX1_full 108 = .ok (.iconst 1, 1) := by decide +kernel
theorem dX1_full_109 : decode cX1_full 109 = .ok (.iand, 1) := by decide +kernel
theorem dX1_full_110 : decode cX1_full 110 = .ok (.ifCond .eq 19, 3) := by decide +kernel
theorem dX1_full_113 : decode cX1_full 113 = .ok (.lload_n 3, 1) := by decide +kernel
theorem dX1_full_114 : decode cX1_full 114 = .ok (.aload_n 0, 1) := by decide +kernel
theorem dX1_full_115 : decode cX1_full 115 = .ok (.getfield 23, 3) := by decide +kernel
theorem dX1_full_118 : decode cX1_full 118 = .ok (.iload_n 2, 1) := by decide +kernel
theorem dX1_full_119 : decode cX1_full 119 = .ok (.iconst 1, 1) := by decide +kernel
theorem dX1_full_120 : decode cX1_full 120 = .ok (.iload 5, 2) := by decide +kernel
theorem dX1_full_122 : decode cX1_full 122 = .ok (.ishl, 1) := by decide +kernel
theorem dX1_full_123 : decode cX1_full 123 = .ok (.iconst (-1), 1) := by decide +kernel
theorem dX1_full_124 : decode cX1_full 124 = .ok (.ixor, 1) := by decide +kernel
theorem dX1_full_125 : decode cX1_full 125 = .ok (.iand, 1) := by decide +kernel
theorem dX1_full_126 : decode cX1_full 126 = .ok (.laload, 1) := by decide +kernel
theorem dX1_full_127 : decode cX1_full 127 = .ok (.ladd, 1) := by decide +kernel
theorem dX1_full_128 : decode cX1_full 128 = .ok (.lstore_n 3, 1) := by decide +kernel
theorem dX1_full_129 : decode cX1_full 129 = .ok (.iinc 5 1, 3) := by decide +kernel
theorem dX1_full_132 : decode cX1_full 132 = .ok (.goto (-51), 3) := by decide +kernel
theorem dX1_full_135 : decode cX1_full 135 = .ok (.aload_n 0, 1) := by decide +kernel
theorem dX1_full_136 : decode cX1_full 136 = .ok (.getfield 23, 3) := by decide +kernel
theorem dX1_full_139 : decode cX1_full 139 = .ok (.iload_n 2, 1) := by decide +kernel
theorem dX1_full_140 : decode cX1_full 140 = .ok (.lload_n 3, 1) := by decide +kernel
theorem dX1_full_141 : decode cX1_full 141 = .ok (.lastore, 1) := by decide +kernel
theorem dX1_full_142 : decode cX1_full 142 = .ok (.iinc 2 (-1), 3) := by decide +kernel
theorem dX1_full_145 : decode cX1_full 145 = .ok (.goto (-83), 3) := by decide +kernel
theorem dX1_full_148 : decode cX1_full 148 = .ok (.iinc 1 1, 3) := by decide +kernel
theorem dX1_full_151 : decode cX1_full 151 = .ok (.goto (-106), 3) := by decide +kernel
theorem dX1_full_154 : decode cX1_full 154 = .ok (.lconst 0, 1) := by decide +kernel
theorem dX1_full_155 : decode cX1_full 155 = .ok (.lstore_n 1, 1) := by decide +kernel
theorem dX1_full_156 : decode cX1_full 156 = .ok (.iconst 0, 1) := by decide +kernel
theorem dX1_full_157 : decode cX1_full 157 = .ok (.istore_n 3, 1) := by decide +kernel
theorem dX1_full_158 : decode cX1_full 158 = .ok (.iload_n 3, 1) := by decide +kernel
theorem dX1_full_159 : decode cX1_full 159 = .ok (.iconst 1, 1) := by decide +kernel
theorem dX1_full_160 : decode cX1_full 160 = .ok (.aload_n 0, 1) := by decide +kernel
theorem dX1_full_161 : decode cX1_full 161 = .ok (.getfield 17, 3) := by decide +kernel
theorem dX1_full_164 : decode cX1_full 164 = .ok (.ishl, 1) := by decide +kernel
theorem dX1_full_165 : decode cX1_full 165 = .ok (.if_icmp .ge 29, 3) := by decide +kernel
theorem dX1_full_168 : decode cX1_full 168 = .ok (.iload_n 3, 1) := by decide +kernel
theorem dX1_full_169 : decode cX1_full 169 = .ok (.invokestatic 32, 3) := by decide +kernel
theorem dX1_full_172 : decode cX1_full 172 = .ok (.aload_n 0, 1) := by decide +kernel
theorem dX1_full_173 : decode cX1_full 173 = .ok (.getfield 13, 3) := by decide +kernel
theorem dX1_full_176 : decode cX1_full 176 = .ok (.if_icmp .ne 12, 3) := by decide +kernel
theorem dX1_full_179 : decode cX1_full 179 = .ok (.lload_n 1, 1) := by decide +kernel
theorem dX1_full_180 : decode cX1_full 180 = .ok (.aload_n 0, 1) := by decide +kernel
theorem dX1_full_181 : decode cX1_full 181 = .ok (.getfield 23, 3) := by decide +kernel
theorem dX1_full_184 : decode cX1_full 184 = .ok (.iload_n 3, 1) := by decide +kernel
theorem dX1_full_185 : decode cX1_full 185 = .ok (.laload, 1) := by decide +kernel
theorem dX1_full_186 : decode cX1_full 186 = .ok (.ladd, 1) := by decide +kernel
theorem dX1_full_187 : decode cX1_full 187 = .ok (.lstore_n 1, 1) := by decide +kernel
theorem dX1_full_188 : decode cX1_full 188 = .ok (.iinc 3 1, 3) := by decide +kernel
theorem dX1_full_191 : decode cX1_full 191 = .ok (.goto (-33), 3) := by decide +kernel
theorem dX1_full_194 : decode cX1_full 194 = .ok (.lload_n 1, 1) := by decide +kernel
theorem dX1_full_195 : decode cX1_full 195 = .ok (.lreturn, 1) := by decide +kernel
theorem q5 : (Jvm.Cond.initialized "MateDeskModel") ∈ lw_all := lw_g (lw_at lw_m0 2 rfl) rfl
theorem q80 : (Jvm.Cond.instantiable "MateDeskModel" (9 : Nat)) ∈ lw_all := lw_g (lw_at lw_m0 77 rfl) rfl
theorem q82 : (Jvm.Cond.instanceMethod ({ cls := "MateDeskModel", name := "<init>", desc := "()V" } : Jvm.MethodName)) ∈ lw_all := lw_g (lw_at lw_m0 79 rfl) rfl
theorem q83 : (Jvm.Cond.code ({ cls := "MateDeskModel", name := "<init>", desc := "()V" } : Jvm.MethodName) prog_3_method_1_code (1 : Nat) (Option.none : Option Jvm.ClassFile.FieldType)) ∈ lw_all := lw_g (lw_at lw_m0 80 rfl) rfl
theorem q84 : (Jvm.Cond.methodLink "MateDeskModel" (1 : Nat) ({ cls := "java/lang/Object", name := "<init>", desc := "()V" } : Jvm.MethodName)) ∈ lw_all := lw_g (lw_at lw_m0 81 rfl) rfl
theorem q85 : (Jvm.Cond.fieldLink "MateDeskModel" (7 : Nat) "MateDeskModel" "ok" "[I") ∈ lw_all := lw_g (lw_at lw_m0 82 rfl) rfl
theorem q86 : (Jvm.Cond.fieldLink "MateDeskModel" (13 : Nat) "MateDeskModel" "n" "I") ∈ lw_all := lw_g (lw_at lw_m0 83 rfl) rfl
theorem q87 : (Jvm.Cond.fieldLink "MateDeskModel" (17 : Nat) "MateDeskModel" "m" "I") ∈ lw_all := lw_g (lw_at lw_m0 84 rfl) rfl
theorem q88 : (Jvm.Cond.fieldLink "MateDeskModel" (20 : Nat) "MateDeskModel" "best" "[I") ∈ lw_all := lw_g (lw_at lw_m0 85 rfl) rfl
theorem q89 : (Jvm.Cond.fieldLink "MateDeskModel" (27 : Nat) "MateDeskModel" "known" "Z") ∈ lw_all := lw_g (lw_at lw_m0 86 rfl) rfl
theorem q90 : (Jvm.Cond.fieldLink "MateDeskModel" (36 : Nat) "MateDeskModel" "pairs" "I") ∈ lw_all := lw_g (lw_at lw_m0 87 rfl) rfl
theorem q91 : (Jvm.Cond.fieldLink "MateDeskModel" (39 : Nat) "MateDeskModel" "watch" "I") ∈ lw_all := lw_g (lw_at lw_m0 88 rfl) rfl
theorem q92 : (Jvm.Cond.fieldLink "MateDeskModel" (42 : Nat) "MateDeskModel" "lack" "I") ∈ lw_all := lw_g (lw_at lw_m0 89 rfl) rfl
theorem q93 : (Jvm.Cond.fieldLink "MateDeskModel" (23 : Nat) "MateDeskModel" "ways" "[J") ∈ lw_all := lw_g (lw_at lw_m0 90 rfl) rfl
theorem q94 : (Jvm.Cond.laysFinal "MateDeskModel" "MateDeskModel" "ok" "[I") ∈ lw_all := lw_g (lw_at lw_m0 91 rfl) rfl
theorem q95 : (Jvm.Cond.soleField "MateDeskModel" "ok") ∈ lw_all := lw_g (lw_at lw_m0 92 rfl) rfl
theorem q96 : (Jvm.Cond.lays "MateDeskModel" "MateDeskModel" "n" "I") ∈ lw_all := lw_g (lw_at lw_m0 93 rfl) rfl
theorem q97 : (Jvm.Cond.soleField "MateDeskModel" "n") ∈ lw_all := lw_g (lw_at lw_m0 94 rfl) rfl
theorem q98 : (Jvm.Cond.lays "MateDeskModel" "MateDeskModel" "m" "I") ∈ lw_all := lw_g (lw_at lw_m0 95 rfl) rfl
theorem q99 : (Jvm.Cond.soleField "MateDeskModel" "m") ∈ lw_all := lw_g (lw_at lw_m0 96 rfl) rfl
theorem q100 : (Jvm.Cond.laysFinal "MateDeskModel" "MateDeskModel" "best" "[I") ∈ lw_all := lw_g (lw_at lw_m0 97 rfl) rfl
theorem q101 : (Jvm.Cond.soleField "MateDeskModel" "best") ∈ lw_all := lw_g (lw_at lw_m0 98 rfl) rfl
theorem q102 : (Jvm.Cond.lays "MateDeskModel" "MateDeskModel" "known" "Z") ∈ lw_all := lw_g (lw_at lw_m0 99 rfl) rfl
theorem q103 : (Jvm.Cond.soleField "MateDeskModel" "known") ∈ lw_all := lw_g (lw_at lw_m0 100 rfl) rfl
theorem q104 : (Jvm.Cond.lays "MateDeskModel" "MateDeskModel" "pairs" "I") ∈ lw_all := lw_g (lw_at lw_m0 101 rfl) rfl
theorem q105 : (Jvm.Cond.soleField "MateDeskModel" "pairs") ∈ lw_all := lw_g (lw_at lw_m0 102 rfl) rfl
theorem q106 : (Jvm.Cond.lays "MateDeskModel" "MateDeskModel" "watch" "I") ∈ lw_all := lw_g (lw_at lw_m0 103 rfl) rfl
theorem q107 : (Jvm.Cond.soleField "MateDeskModel" "watch") ∈ lw_all := lw_g (lw_at lw_m0 104 rfl) rfl
theorem q108 : (Jvm.Cond.lays "MateDeskModel" "MateDeskModel" "lack" "I") ∈ lw_all := lw_g (lw_at lw_m0 105 rfl) rfl
theorem q109 : (Jvm.Cond.soleField "MateDeskModel" "lack") ∈ lw_all := lw_g (lw_at lw_m0 106 rfl) rfl
theorem q110 : (Jvm.Cond.laysFinal "MateDeskModel" "MateDeskModel" "ways" "[J") ∈ lw_all := lw_g (lw_at lw_m0 107 rfl) rfl
theorem q111 : (Jvm.Cond.soleField "MateDeskModel" "ways") ∈ lw_all := lw_g (lw_at lw_m0 108 rfl) rfl
theorem q112 : (Jvm.Cond.superclass "MateDeskModel" "java/lang/Object") ∈ lw_all := lw_g (lw_at lw_m0 109 rfl) rfl
theorem q114 : (Jvm.Cond.instanceMethod ({ cls := "MateDeskModel", name := "sizes", desc := "(II)V" } : Jvm.MethodName)) ∈ lw_all := lw_g (lw_at lw_m0 111 rfl) rfl
theorem q115 : (Jvm.Cond.selects "MateDeskModel" ({ cls := "MateDeskModel", name := "sizes", desc := "(II)V" } : Jvm.MethodName) ({ cls := "MateDeskModel", name := "sizes", desc := "(II)V" } : Jvm.MethodName)) ∈ lw_all := lw_g (lw_at lw_m0 112 rfl) rfl
theorem q116 : (Jvm.Cond.code ({ cls := "MateDeskModel", name := "sizes", desc := "(II)V" } : Jvm.MethodName) prog_3_method_2_code (4 : Nat) (Option.none : Option Jvm.ClassFile.FieldType)) ∈ lw_all := lw_g (lw_at lw_m0 113 rfl) rfl
theorem q118 : (Jvm.Cond.instanceMethod ({ cls := "MateDeskModel", name := "may", desc := "(II)V" } : Jvm.MethodName)) ∈ lw_all := lw_g (lw_at lw_m0 115 rfl) rfl
theorem q119 : (Jvm.Cond.selects "MateDeskModel" ({ cls := "MateDeskModel", name := "may", desc := "(II)V" } : Jvm.MethodName) ({ cls := "MateDeskModel", name := "may", desc := "(II)V" } : Jvm.MethodName)) ∈ lw_all := lw_g (lw_at lw_m0 116 rfl) rfl
theorem q120 : (Jvm.Cond.code ({ cls := "MateDeskModel", name := "may", desc := "(II)V" } : Jvm.MethodName) prog_3_method_3_code (4 : Nat) (Option.none : Option Jvm.ClassFile.FieldType)) ∈ lw_all := lw_g (lw_at lw_m0 117 rfl) rfl
theorem q121 : (Jvm.Cond.constant "MateDeskModel" (31 : Nat) (2147483647 : Int32)) ∈ lw_all := lw_g (lw_at lw_m0 118 rfl) rfl
theorem q123 : (Jvm.Cond.instanceMethod ({ cls := "MateDeskModel", name := "not", desc := "(II)V" } : Jvm.MethodName)) ∈ lw_all := lw_g (lw_at lw_m0 120 rfl) rfl
theorem q124 : (Jvm.Cond.selects "MateDeskModel" ({ cls := "MateDeskModel", name := "not", desc := "(II)V" } : Jvm.MethodName) ({ cls := "MateDeskModel", name := "not", desc := "(II)V" } : Jvm.MethodName)) ∈ lw_all := lw_g (lw_at lw_m0 121 rfl) rfl
theorem q125 : (Jvm.Cond.code ({ cls := "MateDeskModel", name := "not", desc := "(II)V" } : Jvm.MethodName) prog_3_method_4_code (4 : Nat) (Option.none : Option Jvm.ClassFile.FieldType)) ∈ lw_all := lw_g (lw_at lw_m0 122 rfl) rfl
theorem q127 : (Jvm.Cond.instanceMethod ({ cls := "MateDeskModel", name := "most", desc := "()I" } : Jvm.MethodName)) ∈ lw_all := lw_g (lw_at lw_m0 124 rfl) rfl
theorem q128 : (Jvm.Cond.selects "MateDeskModel" ({ cls := "MateDeskModel", name := "most", desc := "()I" } : Jvm.MethodName) ({ cls := "MateDeskModel", name := "most", desc := "()I" } : Jvm.MethodName)) ∈ lw_all := lw_g (lw_at lw_m0 125 rfl) rfl
theorem q129 : (Jvm.Cond.code ({ cls := "MateDeskModel", name := "most", desc := "()I" } : Jvm.MethodName) prog_3_method_7_code (1 : Nat) (Option.some Jvm.ClassFile.FieldType.int)) ∈ lw_all := lw_g (lw_at lw_m0 126 rfl) rfl
theorem q130 : (Jvm.Cond.methodLink "MateDeskModel" (45 : Nat) ({ cls := "MateDeskModel", name := "reckon", desc := "()V" } : Jvm.MethodName)) ∈ lw_all := lw_g (lw_at lw_m0 127 rfl) rfl
theorem q131 : (Jvm.Cond.privateMethod ({ cls := "MateDeskModel", name := "reckon", desc := "()V" } : Jvm.MethodName)) ∈ lw_tbl := lw_at lw_m0 128 rfl
theorem q132 : (Jvm.Cond.instanceMethod ({ cls := "MateDeskModel", name := "reckon", desc := "()V" } : Jvm.MethodName)) ∈ lw_all := lw_g (lw_at lw_m0 129 rfl) rfl
theorem q133 : (Jvm.Cond.code ({ cls := "MateDeskModel", name := "reckon", desc := "()V" } : Jvm.MethodName) prog_3_method_6_code (5 : Nat) (Option.none : Option Jvm.ClassFile.FieldType)) ∈ lw_all := lw_g (lw_at lw_m0 130 rfl) rfl
theorem q134 : (Jvm.Cond.methodLink "MateDeskModel" (32 : Nat) ({ cls := "MateDeskModel", name := "count", desc := "(I)I" } : Jvm.MethodName)) ∈ lw_all := lw_g (lw_at lw_m0 131 rfl) rfl
theorem q135 : (Jvm.Cond.static ({ cls := "MateDeskModel", name := "count", desc := "(I)I" } : Jvm.MethodName)) ∈ lw_all := lw_g (lw_at lw_m0 132 rfl) rfl
theorem q136 : (Jvm.Cond.code ({ cls := "MateDeskModel", name := "count", desc := "(I)I" } : Jvm.MethodName) prog_3_method_5_code (3 : Nat) (Option.some Jvm.ClassFile.FieldType.int)) ∈ lw_all := lw_g (lw_at lw_m0 133 rfl) rfl
theorem q138 : (Jvm.Cond.instanceMethod ({ cls := "MateDeskModel", name := "watchers", desc := "()I" } : Jvm.MethodName)) ∈ lw_all := lw_g (lw_at lw_m0 135 rfl) rfl
theorem q139 : (Jvm.Cond.selects "MateDeskModel" ({ cls := "MateDeskModel", name := "watchers", desc := "()I" } : Jvm.MethodName) ({ cls := "MateDeskModel", name := "watchers", desc := "()I" } : Jvm.MethodName)) ∈ lw_all := lw_g (lw_at lw_m0 136 rfl) rfl
theorem q140 : (Jvm.Cond.code ({ cls := "MateDeskModel", name := "watchers", desc := "()I" } : Jvm.MethodName) prog_3_method_8_code (1 : Nat) (Option.some Jvm.ClassFile.FieldType.int)) ∈ lw_all := lw_g (lw_at lw_m0 137 rfl) rfl
theorem q142 : (Jvm.Cond.instanceMethod ({ cls := "MateDeskModel", name := "lack", desc := "()I" } : Jvm.MethodName)) ∈ lw_all := lw_g (lw_at lw_m0 139 rfl) rfl
theorem q143 : (Jvm.Cond.selects "MateDeskModel" ({ cls := "MateDeskModel", name := "lack", desc := "()I" } : Jvm.MethodName) ({ cls := "MateDeskModel", name := "lack", desc := "()I" } : Jvm.MethodName)) ∈ lw_all := lw_g (lw_at lw_m0 140 rfl) rfl
theorem q144 : (Jvm.Cond.code ({ cls := "MateDeskModel", name := "lack", desc := "()I" } : Jvm.MethodName) prog_3_method_9_code (1 : Nat) (Option.some Jvm.ClassFile.FieldType.int)) ∈ lw_all := lw_g (lw_at lw_m0 141 rfl) rfl
theorem q146 : (Jvm.Cond.instanceMethod ({ cls := "MateDeskModel", name := "full", desc := "()J" } : Jvm.MethodName)) ∈ lw_all := lw_g (lw_at lw_m0 143 rfl) rfl
theorem q147 : (Jvm.Cond.selects "MateDeskModel" ({ cls := "MateDeskModel", name := "full", desc := "()J" } : Jvm.MethodName) ({ cls := "MateDeskModel", name := "full", desc := "()J" } : Jvm.MethodName)) ∈ lw_all := lw_g (lw_at lw_m0 144 rfl) rfl
theorem q148 : (Jvm.Cond.code ({ cls := "MateDeskModel", name := "full", desc := "()J" } : Jvm.MethodName) prog_3_method_10_code (6 : Nat) (Option.some Jvm.ClassFile.FieldType.long)) ∈ lw_all := lw_g (lw_at lw_m0 145 rfl) rfl
theorem in_X1 : ∀ w ∈ wsX10, w ∈ lw_all := lw_in wsX10 [94, 96, 98, 100, 102, 104, 106, 108, 110] (by decide +kernel) (by decide +kernel)
end
section
/-! the law's own entry -/
set_option maxRecDepth 100000
abbrev cL_law : ByteArray := code
theorem dL_law_0 : decode cL_law 0 = .ok (.new 7, 3) := by decide +kernel
theorem dL_law_3 : decode cL_law 3 = .ok (.dup, 1) := by decide +kernel
theorem dL_law_4 : decode cL_law 4 = .ok (.invokespecial 9, 3) := by decide +kernel
theorem dL_law_7 : decode cL_law 7 = .ok (.astore_n 1, 1) := by decide +kernel
theorem dL_law_8 : decode cL_law 8 = .ok (.new 10, 3) := by decide +kernel
theorem dL_law_11 : decode cL_law 11 = .ok (.dup, 1) := by decide +kernel
theorem dL_law_12 : decode cL_law 12 = .ok (.invokespecial 12, 3) := by decide +kernel
theorem dL_law_15 : decode cL_law 15 = .ok (.astore_n 2, 1) := by decide +kernel
theorem dL_law_16 : decode cL_law 16 = .ok (.iconst 0, 1) := by decide +kernel
theorem dL_law_17 : decode cL_law 17 = .ok (.istore_n 3, 1) := by decide +kernel
theorem dL_law_18 : decode cL_law 18 = .ok (.iload_n 3, 1) := by decide +kernel
theorem dL_law_19 : decode cL_law 19 = .ok (.aload_n 0, 1) := by decide +kernel
theorem dL_law_20 : decode cL_law 20 = .ok (.arraylength, 1) := by decide +kernel
theorem dL_law_21 : decode cL_law 21 = .ok (.iconst 3, 1) := by decide +kernel
theorem dL_law_22 : decode cL_law 22 = .ok (.isub, 1) := by decide +kernel
theorem dL_law_23 : decode cL_law 23 = .ok (.if_icmp .gt 205, 3) := by decide +kernel
theorem dL_law_26 : decode cL_law 26 = .ok (.aload_n 0, 1) := by decide +kernel
theorem dL_law_27 : decode cL_law 27 = .ok (.iload_n 3, 1) := by decide +kernel
theorem dL_law_28 : decode cL_law 28 = .ok (.iaload, 1) := by decide +kernel
theorem dL_law_29 : decode cL_law 29 = .ok (.bipush 7, 2) := by decide +kernel
theorem dL_law_31 : decode cL_law 31 = .ok (.iand, 1) := by decide +kernel
theorem dL_law_32 : decode cL_law 32 = .ok (.tableswitch 190 0 6 #[44, 75, 106, 137, 150, 163, 176], 44) := by decide +kernel
theorem dL_law_76 : decode cL_law 76 = .ok (.aload_n 1, 1) := by decide +kernel
theorem dL_law_77 : decode cL_law 77 = .ok (.aload_n 0, 1) := by decide +kernel
theorem dL_law_78 : decode cL_law 78 = .ok (.iload_n 3, 1) := by decide +kernel
theorem dL_law_79 : decode cL_law 79 = .ok (.iconst 1, 1) := by decide +kernel
theorem dL_law_80 : decode cL_law 80 = .ok (.iadd, 1) := by decide +kernel
theorem dL_law_81 : decode cL_law 81 = .ok (.iaload, 1) := by decide +kernel
theorem dL_law_82 : decode cL_law 82 = .ok (.aload_n 0, 1) := by decide +kernel
theorem dL_law_83 : decode cL_law 83 = .ok (.iload_n 3, 1) := by decide +kernel
theorem dL_law_84 : decode cL_law 84 = .ok (.iconst 2, 1) := by decide +kernel
theorem dL_law_85 : decode cL_law 85 = .ok (.iadd, 1) := by decide +kernel
theorem dL_law_86 : decode cL_law 86 = .ok (.iaload, 1) := by decide +kernel
theorem dL_law_87 : decode cL_law 87 = .ok (.invokevirtual 13, 3) := by decide +kernel
theorem dL_law_90 : decode cL_law 90 = .ok (.aload_n 2, 1) := by decide +kernel
theorem dL_law_91 : decode cL_law 91 = .ok (.aload_n 0, 1) := by decide +kernel
theorem dL_law_92 : decode cL_law 92 = .ok (.iload_n 3, 1) := by decide +kernel
theorem dL_law_93 : decode cL_law 93 = .ok (.iconst 1, 1) := by decide +kernel
theorem dL_law_94 : decode cL_law 94 = .ok (.iadd, 1) := by decide +kernel
theorem dL_law_95 : decode cL_law 95 = .ok (.iaload, 1) := by decide +kernel
theorem dL_law_96 : decode cL_law 96 = .ok (.aload_n 0, 1) := by decide +kernel
theorem dL_law_97 : decode cL_law 97 = .ok (.iload_n 3, 1) := by decide +kernel
theorem dL_law_98 : decode cL_law 98 = .ok (.iconst 2, 1) := by decide +kernel
theorem dL_law_99 : decode cL_law 99 = .ok (.iadd, 1) := by decide +kernel
theorem dL_law_100 : decode cL_law 100 = .ok (.iaload, 1) := by decide +kernel
theorem dL_law_101 : decode cL_law 101 = .ok (.invokevirtual 17, 3) := by decide +kernel
theorem dL_law_104 : decode cL_law 104 = .ok (.goto 118, 3) := by decide +kernel
theorem dL_law_107 : decode cL_law 107 = .ok (.aload_n 1, 1) := by decide +kernel
theorem dL_law_108 : decode cL_law 108 = .ok (.aload_n 0, 1) := by decide +kernel
theorem dL_law_109 : decode cL_law 109 = .ok (.iload_n 3, 1) := by decide +kernel
theorem dL_law_110 : decode cL_law 110 = .ok (.iconst 1, 1) := by decide +kernel
theorem dL_law_111 : decode cL_law 111 = .ok (.iadd, 1) := by decide +kernel
theorem dL_law_112 : decode cL_law 112 = .ok (.iaload, 1) := by decide +kernel
theorem dL_law_113 : decode cL_law 113 = .ok (.aload_n 0, 1) := by decide +kernel
theorem dL_law_114 : decode cL_law 114 = .ok (.iload_n 3, 1) := by decide +kernel
theorem dL_law_115 : decode cL_law 115 = .ok (.iconst 2, 1) := by decide +kernel
theorem dL_law_116 : decode cL_law 116 = .ok (.iadd, 1) := by decide +kernel
theorem dL_law_117 : decode cL_law 117 = .ok (.iaload, 1) := by decide +kernel
theorem dL_law_118 : decode cL_law 118 = .ok (.invokevirtual 18, 3) := by decide +kernel
theorem dL_law_121 : decode cL_law 121 = .ok (.aload_n 2, 1) := by decide +kernel
theorem dL_law_122 : decode cL_law 122 = .ok (.aload_n 0, 1) := by decide +kernel
theorem dL_law_123 : decode cL_law 123 = .ok (.iload_n 3, 1) := by decide +kernel
theorem dL_law_124 : decode cL_law 124 = .ok (.iconst 1, 1) := by decide +kernel
theorem dL_law_125 : decode cL_law 125 = .ok (.iadd, 1) := by decide +kernel
theorem dL_law_126 : decode cL_law 126 = .ok (.iaload, 1) := by decide +kernel
theorem dL_law_127 : decode cL_law 127 = .ok (.aload_n 0, 1) := by decide +kernel
theorem dL_law_128 : decode cL_law 128 = .ok (.iload_n 3, 1) := by decide +kernel
theorem dL_law_129 : decode cL_law 129 = .ok (.iconst 2, 1) := by decide +kernel
theorem dL_law_130 : decode cL_law 130 = .ok (.iadd, 1) := by decide +kernel
theorem dL_law_131 : decode cL_law 131 = .ok (.iaload, 1) := by decide +kernel
theorem dL_law_132 : decode cL_law 132 = .ok (.invokevirtual 21, 3) := by decide +kernel
theorem dL_law_135 : decode cL_law 135 = .ok (.goto 87, 3) := by decide +kernel
theorem dL_law_138 : decode cL_law 138 = .ok (.aload_n 1, 1) := by decide +kernel
theorem dL_law_139 : decode cL_law 139 = .ok (.aload_n 0, 1) := by decide +kernel
theorem dL_law_140 : decode cL_law 140 = .ok (.iload_n 3, 1) := by decide +kernel
theorem dL_law_141 : decode cL_law 141 = .ok (.iconst 1, 1) := by decide +kernel
theorem dL_law_142 : decode cL_law 142 = .ok (.iadd, 1) := by decide +kernel
theorem dL_law_143 : decode cL_law 143 = .ok (.iaload, 1) := by decide +kernel
theorem dL_law_144 : decode cL_law 144 = .ok (.aload_n 0, 1) := by decide +kernel
theorem dL_law_145 : decode cL_law 145 = .ok (.iload_n 3, 1) := by decide +kernel
theorem dL_law_146 : decode cL_law 146 = .ok (.iconst 2, 1) := by decide +kernel
theorem dL_law_147 : decode cL_law 147 = .ok (.iadd, 1) := by decide +kernel
theorem dL_law_148 : decode cL_law 148 = .ok (.iaload, 1) := by decide +kernel
theorem dL_law_149 : decode cL_law 149 = .ok (.invokevirtual 22, 3) := by decide +kernel
theorem dL_law_152 : decode cL_law 152 = .ok (.aload_n 2, 1) := by decide +kernel
theorem dL_law_153 : decode cL_law 153 = .ok (.aload_n 0, 1) := by decide +kernel
theorem dL_law_154 : decode cL_law 154 = .ok (.iload_n 3, 1) := by decide +kernel
theorem dL_law_155 : decode cL_law 155 = .ok (.iconst 1, 1) := by decide +kernel
theorem dL_law_156 : decode cL_law 156 = .ok (.iadd, 1) := by decide +kernel
theorem dL_law_157 : decode cL_law 157 = .ok (.iaload, 1) := by decide +kernel
theorem dL_law_158 : decode cL_law 158 = .ok (.aload_n 0, 1) := by decide +kernel
theorem dL_law_159 : decode cL_law 159 = .ok (.iload_n 3, 1) := by decide +kernel
theorem dL_law_160 : decode cL_law 160 = .ok (.iconst 2, 1) := by decide +kernel
theorem dL_law_161 : decode cL_law 161 = .ok (.iadd, 1) := by decide +kernel
theorem dL_law_162 : decode cL_law 162 = .ok (.iaload, 1) := by decide +kernel
theorem dL_law_163 : decode cL_law 163 = .ok (.invokevirtual 25, 3) := by decide +kernel
theorem dL_law_166 : decode cL_law 166 = .ok (.goto 56, 3) := by decide +kernel
theorem dL_law_169 : decode cL_law 169 = .ok (.aload_n 1, 1) := by decide +kernel
theorem dL_law_170 : decode cL_law 170 = .ok (.invokevirtual 26, 3) := by decide +kernel
theorem dL_law_173 : decode cL_law 173 = .ok (.aload_n 2, 1) := by decide +kernel
theorem dL_law_174 : decode cL_law 174 = .ok (.invokevirtual 30, 3) := by decide +kernel
theorem dL_law_177 : decode cL_law 177 = .ok (.if_icmp .eq 45, 3) := by decide +kernel
theorem dL_law_180 : decode cL_law 180 = .ok (.iconst 0, 1) := by decide +kernel
theorem dL_law_181 : decode cL_law 181 = .ok (.ireturn, 1) := by decide +kernel
theorem dL_law_182 : decode cL_law 182 = .ok (.aload_n 1, 1) := by decide +kernel
theorem dL_law_183 : decode cL_law 183 = .ok (.invokevirtual 31, 3) := by decide +kernel
theorem dL_law_186 : decode cL_law 186 = .ok (.aload_n 2, 1) := by decide +kernel
theorem dL_law_187 : decode cL_law 187 = .ok (.invokevirtual 34, 3) := by decide +kernel
theorem dL_law_190 : decode cL_law 190 = .ok (.if_icmp .eq 32, 3) := by decide +kernel
theorem dL_law_193 : decode cL_law 193 = .ok (.iconst 0, 1) := by decide +kernel
theorem dL_law_194 : decode cL_law 194 = .ok (.ireturn, 1) := by decide +kernel
theorem dL_law_195 : decode cL_law 195 = .ok (.aload_n 1, 1) := by decide +kernel
theorem dL_law_196 : decode cL_law 196 = .ok (.invokevirtual 35, 3) := by decide +kernel
theorem dL_law_199 : decode cL_law 199 = .ok (.aload_n 2, 1) := by decide +kernel
theorem dL_law_200 : decode cL_law 200 = .ok (.invokevirtual 38, 3) := by decide +kernel
theorem dL_law_203 : decode cL_law 203 = .ok (.if_icmp .eq 19, 3) := by decide +kernel
theorem dL_law_206 : decode cL_law 206 = .ok (.iconst 0, 1) := by decide +kernel
theorem dL_law_207 : decode cL_law 207 = .ok (.ireturn, 1) := by decide +kernel
theorem dL_law_208 : decode cL_law 208 = .ok (.aload_n 1, 1) := by decide +kernel
theorem dL_law_209 : decode cL_law 209 = .ok (.invokevirtual 39, 3) := by decide +kernel
theorem dL_law_212 : decode cL_law 212 = .ok (.aload_n 2, 1) := by decide +kernel
theorem dL_law_213 : decode cL_law 213 = .ok (.invokevirtual 43, 3) := by decide +kernel
theorem dL_law_216 : decode cL_law 216 = .ok (.lcmp, 1) := by decide +kernel
theorem dL_law_217 : decode cL_law 217 = .ok (.ifCond .eq 5, 3) := by decide +kernel
theorem dL_law_220 : decode cL_law 220 = .ok (.iconst 0, 1) := by decide +kernel
theorem dL_law_221 : decode cL_law 221 = .ok (.ireturn, 1) := by decide +kernel
theorem dL_law_222 : decode cL_law 222 = .ok (.iinc 3 3, 3) := by decide +kernel
theorem dL_law_225 : decode cL_law 225 = .ok (.goto (-207), 3) := by decide +kernel
theorem dL_law_228 : decode cL_law 228 = .ok (.iconst 1, 1) := by decide +kernel
theorem dL_law_229 : decode cL_law 229 = .ok (.ireturn, 1) := by decide +kernel
end
section
/-! counting, masks, and sums: plain Lean -/
def zp_cnt : Nat → (Nat → Bool) → Nat
  | 0, _ => 0
  | n + 1, P => zp_cnt n P + (P n).toNat
def zp_any : Nat → (Nat → Bool) → Bool
  | 0, _ => false
  | n + 1, P => zp_any n P || P n
def zp_S : Nat → (Nat → Int64) → Int64
  | 0, _ => 0
  | n + 1, f => zp_S n f + f n
def zp_mk : Nat → (Nat → Bool) → Nat
  | 0, _ => 0
  | n + 1, P => (if P n = true then 2 ^ n else 0) + zp_mk n P
def zp_u (f : Nat → Nat) (k x : Nat) : Nat → Nat := fun j => if j = k then x else f j
theorem zp_us {f : Nat → Nat} {k x : Nat} : zp_u f k x k = x := if_pos rfl
theorem zp_un {f : Nat → Nat} {k x j : Nat} (h : j ≠ k) : zp_u f k x j = f j := if_neg h
theorem zp_cnt_congr {n : Nat} {P Q : Nat → Bool} (h : ∀ i, i < n → P i = Q i) : zp_cnt n P = zp_cnt n Q := by
  induction n with
  | zero => rfl
  | succ n ih =>
    have h1 := ih (fun i hi => h i (by omega))
    have h2 := h n (by omega)
    simp only [zp_cnt, h1, h2]
theorem zp_cnt_mono {n : Nat} {P Q : Nat → Bool} (h : ∀ i, i < n → P i = true → Q i = true) : zp_cnt n P ≤ zp_cnt n Q := by
  induction n with
  | zero => exact Nat.le_refl _
  | succ n ih =>
    have h1 := ih (fun i hi => h i (by omega))
    have h2 := h n (by omega)
    have h3 : (P n).toNat ≤ (Q n).toNat := by
      cases hp : P n with
      | false => exact Nat.zero_le _
      | true => simp [h2 hp]
    simp only [zp_cnt]
    omega
theorem zp_cnt_le {n : Nat} {P : Nat → Bool} : zp_cnt n P ≤ n := by
  induction n with
  | zero => exact Nat.le_refl _
  | succ n ih =>
    have h3 : (P n).toNat ≤ 1 := Bool.toNat_le (P n)
    simp only [zp_cnt]
    omega
theorem zp_cnt_lt {n i : Nat} {P : Nat → Bool} (hi : i < n) (h : P i = false) : zp_cnt n P < n := by
  induction n with
  | zero => omega
  | succ n ih =>
    have h3 : (P n).toNat ≤ 1 := Bool.toNat_le (P n)
    simp only [zp_cnt]
    rcases Nat.lt_or_ge i n with q | q
    · have := ih q
      omega
    · have e : i = n := by omega
      subst e
      have := zp_cnt_le (n := i) (P := P)
      rw [h]
      simp only [Bool.toNat_false]
      omega
theorem zp_cnt_up {n i : Nat} {P Q : Nat → Bool} (hi : i < n) (hP : P i = false) (hQ : Q i = true) (h : ∀ j, j < n → j ≠ i → Q j = P j) : zp_cnt n Q = zp_cnt n P + 1 := by
  induction n with
  | zero => omega
  | succ n ih =>
    simp only [zp_cnt]
    rcases Nat.lt_or_ge i n with q | q
    · have h1 := ih q (fun j hj hn => h j (by omega) hn)
      rw [h1, h n (by omega) (by omega)]
      omega
    · have e : i = n := by omega
      subst e
      rw [hP, hQ, zp_cnt_congr (P := Q) (Q := P) (fun j hj => h j (by omega) (by omega))]
      simp
theorem zp_cnt_split {n : Nat} (P Q : Nat → Bool) : zp_cnt n P = zp_cnt n (fun i => P i && Q i) + zp_cnt n (fun i => P i && !Q i) := by
  induction n with
  | zero => rfl
  | succ n ih =>
    simp only [zp_cnt]
    rw [ih]
    cases P n <;> cases Q n <;> simp <;> omega
theorem zp_cnt_not {n : Nat} (P : Nat → Bool) : zp_cnt n P + zp_cnt n (fun i => !P i) = n := by
  induction n with
  | zero => rfl
  | succ n ih =>
    simp only [zp_cnt]
    cases P n <;> simp <;> omega
theorem zp_cnt_ext {n R : Nat} {P : Nat → Bool} (hR : R ≤ n) (h : ∀ i, R ≤ i → P i = false) : zp_cnt n P = zp_cnt R P := by
  induction n with
  | zero =>
    have : R = 0 := by omega
    rw [this]
  | succ n ih =>
    rcases Nat.lt_or_ge n R with q | q
    · have : R = n + 1 := by omega
      rw [this]
    · simp only [zp_cnt]
      rw [ih q, h n q]
      simp
theorem zp_cnt_0 {n : Nat} {P : Nat → Bool} (h : ∀ i, i < n → P i = false) : zp_cnt n P = 0 := by
  induction n with
  | zero => rfl
  | succ n ih =>
    simp only [zp_cnt]
    rw [ih (fun i hi => h i (by omega)), h n (by omega)]
    rfl
/-- a count goes into another along a map that is one to one -/
theorem zp_cnt_inj {n m : Nat} {P : Nat → Bool} (f : Nat → Nat) : ∀ (Q : Nat → Bool), (∀ i, i < n → P i = true → f i < m ∧ Q (f i) = true) → (∀ i j, i < n → j < n → P i = true → P j = true → f i = f j → i = j) → zp_cnt n P ≤ zp_cnt m Q := by
  induction n with
  | zero => intro Q _ _; exact Nat.zero_le _
  | succ n ih =>
    intro Q h hinj
    cases hp : P n with
    | false =>
      have := ih Q (fun i hi hP => h i (by omega) hP) (fun i j hi hj => hinj i j (by omega) (by omega))
      simp only [zp_cnt, hp, Bool.toNat_false]
      omega
    | true =>
      obtain ⟨hf, hq⟩ := h n (by omega) hp
      have h1 := ih (fun j => if j = f n then false else Q j) (fun i hi hP => by
        obtain ⟨a, b⟩ := h i (by omega) hP
        refine ⟨a, ?_⟩
        have : f i ≠ f n := fun e => by
          have := hinj i n (by omega) (by omega) hP hp e
          omega
        simp [this, b]) (fun i j hi hj => hinj i j (by omega) (by omega))
      have h2 := zp_cnt_up (n := m) (i := f n) (P := fun j => if j = f n then false else Q j) (Q := Q) hf (by simp) hq (fun j hj hn => by simp [hn])
      simp only [zp_cnt, hp, Bool.toNat_true]
      omega
theorem zp_any_iff {n : Nat} {P : Nat → Bool} : zp_any n P = true ↔ ∃ i, i < n ∧ P i = true := by
  induction n with
  | zero => simp [zp_any]
  | succ n ih =>
    simp only [zp_any, Bool.or_eq_true, ih]
    constructor
    · rintro (⟨i, h1, h2⟩ | h)
      · exact ⟨i, by omega, h2⟩
      · exact ⟨n, by omega, h⟩
    · rintro ⟨i, h1, h2⟩
      rcases Nat.lt_or_ge i n with q | q
      · exact Or.inl ⟨i, q, h2⟩
      · have : i = n := by omega
        subst this
        exact Or.inr h2
theorem zp_S_congr {n : Nat} {f g : Nat → Int64} (h : ∀ i, i < n → f i = g i) : zp_S n f = zp_S n g := by
  induction n with
  | zero => rfl
  | succ n ih =>
    have h1 := ih (fun i hi => h i (by omega))
    have h2 := h n (by omega)
    simp only [zp_S, h1, h2]
theorem zp_S_0 {n : Nat} {f : Nat → Int64} (h : ∀ i, i < n → f i = 0) : zp_S n f = 0 := by
  induction n with
  | zero => rfl
  | succ n ih =>
    simp only [zp_S]
    rw [ih (fun i hi => h i (by omega)), h n (by omega)]
    rfl
theorem zp_mk_lt {n : Nat} {P : Nat → Bool} : zp_mk n P < 2 ^ n := by
  induction n with
  | zero => simp [zp_mk]
  | succ n ih =>
    simp only [zp_mk]
    have : (if P n = true then 2 ^ n else 0) ≤ 2 ^ n := by split <;> omega
    rw [Nat.pow_succ]
    omega
theorem zp_mk_bit {n : Nat} {P : Nat → Bool} {b : Nat} : (zp_mk n P).testBit b = (decide (b < n) && P b) := by
  induction n with
  | zero => simp [zp_mk]
  | succ n ih =>
    have hlt := zp_mk_lt (n := n) (P := P)
    rcases Nat.lt_trichotomy b n with q | q | q
    · have e1 : decide (b < n + 1) = true := by simp; omega
      have e2 : decide (b < n) = true := by simp; omega
      rw [e1, ← e2, ← ih]
      simp only [zp_mk]
      split
      · rw [Nat.testBit_two_pow_add_gt q]
      · rw [Nat.zero_add]
    · subst q
      have e0 : (zp_mk b P).testBit b = false := Nat.testBit_lt_two_pow hlt
      simp only [zp_mk]
      split
      · rename_i hp
        rw [Nat.testBit_two_pow_add_eq, e0, hp]
        simp
      · rename_i hp
        rw [Nat.zero_add, e0]
        simp [hp]
    · have h1 := zp_mk_lt (n := n + 1) (P := P)
      have h2 : 2 ^ (n + 1) ≤ 2 ^ b := Nat.pow_le_pow_right (by omega) (by omega)
      rw [Nat.testBit_lt_two_pow (Nat.lt_of_lt_of_le h1 h2)]
      have e1 : decide (b < n + 1) = false := by simp; omega
      rw [e1]
      rfl
/-- how many of the eight bits -/
def zp_pc (v : Nat) : Nat := zp_cnt 8 (fun b => v.testBit b)
/-- the set without b -/
def zp_clr (s b : Nat) : Nat := s &&& (255 ^^^ 2 ^ b)
set_option maxRecDepth 100000 in
theorem zp_clr_bit : ∀ s, s < 256 → ∀ b, b < 8 → ∀ i, i < 8 → (zp_clr s b).testBit i = (s.testBit i && !(i == b)) := by decide +kernel
set_option maxRecDepth 100000 in
theorem zp_clr_lt : ∀ s, s < 256 → ∀ b, b < 8 → s.testBit b = true → zp_clr s b < s := by decide +kernel
set_option maxRecDepth 100000 in
theorem zp_clr_xor : ∀ s, s < 256 → ∀ b, b < 8 → s.testBit b = true → s ^^^ 2 ^ b = zp_clr s b := by decide +kernel
set_option maxRecDepth 100000 in
theorem zp_pc_and : ∀ v, v < 256 → v ≠ 0 → zp_pc (v &&& (v - 1)) + 1 = zp_pc v ∧ v &&& (v - 1) < v := by decide +kernel
set_option maxRecDepth 100000 in
theorem zp_pc_clr : ∀ s, s < 256 → ∀ b, b < 8 → s.testBit b = true → zp_pc (zp_clr s b) + 1 = zp_pc s := by decide +kernel
set_option maxRecDepth 100000 in
theorem zp_pc_z : ∀ s, s < 256 → zp_pc s = 0 → s = 0 := by decide +kernel
theorem zp_pc_le {v : Nat} : zp_pc v ≤ 8 := zp_cnt_le
theorem zp_pc_0 : zp_pc 0 = 0 := by decide +kernel
theorem zp_pow {R : Nat} (h : R ≤ 8) : 2 ^ R ≤ 256 := Nat.pow_le_pow_right (n := 2) (by omega) h
theorem zp_pc_R {v R : Nat} (hR : R ≤ 8) (h : v < 2 ^ R) : zp_pc v = zp_cnt R (fun b => v.testBit b) :=
  zp_cnt_ext hR (fun i hi => Nat.testBit_lt_two_pow (Nat.lt_of_lt_of_le h (Nat.pow_le_pow_right (by omega) hi)))
end
section
/-! pairings, ways and covers: plain Lean. g a: the mask of the left a; mt b: the mate of the right b, 8 is none -/
/-- mt pairs rights below R with lefts below k, by the masks, one to one -/
def zp_M (R : Nat) (g : Nat → Nat) (k : Nat) (mt : Nat → Nat) : Prop :=
  (∀ b, b < R → mt b ≠ 8 → mt b < k ∧ (g (mt b)).testBit b = true) ∧ (∀ b b', b < R → b' < R → mt b = mt b' → mt b ≠ 8 → b = b')
def zp_n (R : Nat) (mt : Nat → Nat) : Nat := zp_cnt R (fun b => !(mt b == 8))
/-- a cover of the pairs of lefts below k, of at most c -/
def zp_C (R : Nat) (g : Nat → Nat) (k c : Nat) : Prop := ∃ X Y : Nat → Bool, (∀ a b, a < k → b < R → (g a).testBit b = true → X a = true ∨ Y b = true) ∧ zp_cnt k X + zp_cnt R Y ≤ c
/-- the queue q of l lefts: the first is k, each other is the mate of a right come to from one before -/
def zp_Q (R : Nat) (g : Nat → Nat) (k : Nat) (mt fr q : Nat → Nat) (l : Nat) : Prop :=
  1 ≤ l ∧ q 0 = k ∧ (∀ i, 1 ≤ i → i < l → ∃ b, b < R ∧ mt b = q i ∧ q i ≠ 8 ∧ ∃ j, j < i ∧ fr b = q j ∧ (g (q j)).testBit b = true) ∧ (∀ i j, i < l → j < l → q i = q j → i = j)
/-- turning: at the right b, come to from q j; without b the pairing stands and has c pairs -/
def zp_T (R : Nat) (g : Nat → Nat) (k : Nat) (fr q : Nat → Nat) (c b j : Nat) (mt : Nat → Nat) : Prop :=
  b < R ∧ fr b = q j ∧ (g (q j)).testBit b = true ∧ q 0 = k ∧ zp_M R g k (zp_u mt b 8) ∧ zp_n R (zp_u mt b 8) = c ∧
  (∀ i, 1 ≤ i → i ≤ j → ∃ b', b' < R ∧ b' ≠ b ∧ mt b' = q i ∧ q i ≠ 8 ∧ ∃ j', j' < i ∧ fr b' = q j' ∧ (g (q j')).testBit b' = true) ∧
  (∀ i, i ≤ j → mt b ≠ q i) ∧ (∀ i i', i ≤ j → i' ≤ j → q i = q i' → i = i')
theorem zp_M_0 {R : Nat} {g mt : Nat → Nat} (h : ∀ b, b < R → mt b = 8) : zp_M R g 0 mt :=
  ⟨fun b hb hn => absurd (h b hb) hn, fun b b' hb _ _ hn => absurd (h b hb) hn⟩
theorem zp_n_0 {R : Nat} {mt : Nat → Nat} (h : ∀ b, b < R → mt b = 8) : zp_n R mt = 0 :=
  zp_cnt_0 (fun i hi => by simp [h i hi])
theorem zp_C_0 {R : Nat} {g : Nat → Nat} : zp_C R g 0 0 :=
  ⟨fun _ => false, fun _ => false, fun a b ha => absurd ha (by omega), by
    rw [zp_cnt_0 (n := R) (fun _ _ => rfl)]
    exact Nat.le_refl 0⟩
theorem zp_T_start {R : Nat} {g : Nat → Nat} {k : Nat} {mt fr q : Nat → Nat} {l b j : Nat} (hk : k < 8) (hM : zp_M R g k mt) (hQ : zp_Q R g k mt fr q l) (hb : b < R) (hm : mt b = 8) (hj : j < l) (hf : fr b = q j) (hE : (g (q j)).testBit b = true) : zp_T R g k fr q (zp_n R mt) b j mt := by
  obtain ⟨hl, h0, hq, hi⟩ := hQ
  have e : zp_u mt b 8 = mt := by
    funext x
    unfold zp_u
    split
    · rename_i h
      rw [h, hm]
    · rfl
  refine ⟨hb, hf, hE, h0, ?_, ?_, ?_, ?_, ?_⟩
  · rw [e]
    exact hM
  · rw [e]
  · intro i h1 h2
    obtain ⟨b', a1, a2, a3, j', a4, a5, a6⟩ := hq i h1 (by omega)
    exact ⟨b', a1, fun h => a3 (by rw [← a2, h, hm]), a2, a3, j', a4, a5, a6⟩
  · intro i h1
    rw [hm]
    rcases Nat.eq_zero_or_pos i with z | z
    · rw [z, h0]
      omega
    · obtain ⟨b', a1, a2, a3, _⟩ := hq i z (by omega)
      exact fun h => a3 h.symm
  · intro i i' h1 h2
    exact hi i i' (by omega) (by omega)
theorem zp_T_done {R : Nat} {g : Nat → Nat} {k : Nat} {mt fr q : Nat → Nat} {c b j : Nat} (hk : k < 8) (h : zp_T R g k fr q c b j mt) (hf : fr b = k) : zp_M R g (k + 1) (zp_u mt b k) ∧ zp_n R (zp_u mt b k) = c + 1 := by
  obtain ⟨hb, hfr, hE, h0, hM, hn, hlow, hst, hinj⟩ := h
  have hE' : (g k).testBit b = true := by
    rw [← hf, hfr]
    exact hE
  refine ⟨⟨?_, ?_⟩, ?_⟩
  · intro x h1 h2
    by_cases e : x = b
    · rw [e, zp_us]
      exact ⟨by omega, hE'⟩
    · rw [zp_un e] at h2 ⊢
      have := hM.1 x h1 (by rw [zp_un e]; exact h2)
      rw [zp_un e] at this
      exact ⟨by omega, this.2⟩
  · intro b1 b2 h1 h2 h3 h4
    by_cases e1 : b1 = b
    · by_cases e2 : b2 = b
      · omega
      · rw [e1, zp_us, zp_un e2] at h3
        have := (hM.1 b2 h2 (by rw [zp_un e2]; omega)).1
        rw [zp_un e2] at this
        omega
    · by_cases e2 : b2 = b
      · rw [e2, zp_us, zp_un e1] at h3
        have := (hM.1 b1 h1 (by rw [zp_un e1]; omega)).1
        rw [zp_un e1] at this
        omega
      · rw [zp_un e1, zp_un e2] at h3
        rw [zp_un e1] at h4
        exact hM.2 b1 b2 h1 h2 (by rw [zp_un e1, zp_un e2]; exact h3) (by rw [zp_un e1]; exact h4)
  · rw [← hn]
    unfold zp_n
    refine zp_cnt_up hb ?_ ?_ ?_
    · simp [zp_us]
    · rw [zp_us]
      have : k ≠ 8 := by omega
      simp [this]
    · intro x hx hne
      rw [zp_un hne, zp_un hne]
theorem zp_T_step {R : Nat} {g : Nat → Nat} {k : Nat} {mt fr q : Nat → Nat} {c b j had : Nat} (h : zp_T R g k fr q c b j mt) (hf : fr b ≠ k) (hh : (had = 8 ∧ ∀ i, i < R → mt i ≠ fr b) ∨ (had < R ∧ mt had = fr b)) : had < R ∧ ∃ j', j' < j ∧ zp_T R g k fr q c had j' (zp_u mt b (fr b)) := by
  obtain ⟨hb, hfr, hE, h0, hM, hn, hlow, hst, hinj⟩ := h
  have hj : 1 ≤ j := by
    rcases Nat.eq_zero_or_pos j with z | z
    · exact absurd (by rw [hfr, z, h0]) hf
    · exact z
  obtain ⟨b', a1, a2, a3, a4, j', a5, a6, a7⟩ := hlow j hj (Nat.le_refl j)
  have hhad : had = b' := by
    rcases hh with ⟨_, hx⟩ | ⟨hx1, hx2⟩
    · exact absurd (by rw [a3, hfr]) (hx b' a1)
    · have e1 : had ≠ b := fun e => hst j (Nat.le_refl j) (by rw [← e, hx2, hfr])
      exact hM.2 had b' hx1 a1 (by rw [zp_un e1, zp_un a2, hx2, hfr, a3]) (by rw [zp_un e1, hx2, hfr]; exact a4)
  subst hhad
  refine ⟨a1, j', a5, a1, a6, a7, h0, ⟨?_, ?_⟩, ?_, ?_, ?_, ?_⟩
  · intro x hx1 hx2
    by_cases e1 : x = had
    · exact absurd (by rw [e1, zp_us]) hx2
    · rw [zp_un e1] at hx2 ⊢
      by_cases e2 : x = b
      · rw [e2, zp_us, hfr]
        have := hM.1 had a1 (by rw [zp_un a2, a3]; exact a4)
        rw [zp_un a2, a3] at this
        exact ⟨this.1, hE⟩
      · rw [zp_un e2] at hx2 ⊢
        have := hM.1 x hx1 (by rw [zp_un e2]; exact hx2)
        rw [zp_un e2] at this
        exact this
  · intro x y hx hy hxy hx8
    by_cases e1 : x = had
    · exact absurd (by rw [e1, zp_us]) hx8
    · by_cases e2 : y = had
      · exact absurd (by rw [hxy, e2, zp_us]) hx8
      · rw [zp_un e1, zp_un e2] at hxy
        rw [zp_un e1] at hx8
        by_cases f1 : x = b
        · by_cases f2 : y = b
          · omega
          · rw [f1, zp_us, zp_un f2, hfr] at hxy
            exact absurd (hM.2 y had hy a1 (by rw [zp_un f2, zp_un a2, a3, ← hxy]) (by rw [zp_un f2, ← hxy]; exact a4)) e2
        · by_cases f2 : y = b
          · rw [f2, zp_us, zp_un f1, hfr] at hxy
            exact absurd (hM.2 x had hx a1 (by rw [zp_un f1, zp_un a2, a3, hxy]) (by rw [zp_un f1, hxy]; exact a4)) e1
          · rw [zp_un f1, zp_un f2] at hxy
            rw [zp_un f1] at hx8
            exact hM.2 x y hx hy (by rw [zp_un f1, zp_un f2]; exact hxy) (by rw [zp_un f1]; exact hx8)
  · have c1 : zp_n R (zp_u mt b 8) = zp_n R (zp_u (zp_u mt b 8) had 8) + 1 := zp_cnt_up (i := had) a1 (by simp [zp_us]) (by simp [zp_un a2, a3, a4]) (fun x hx hne => by rw [zp_un (f := zp_u mt b 8) hne])
    have c2 : zp_n R (zp_u (zp_u mt b (fr b)) had 8) = zp_n R (zp_u (zp_u mt b 8) had 8) + 1 := zp_cnt_up (i := b) hb (by simp [zp_un (Ne.symm a2), zp_us]) (by simp [zp_un (Ne.symm a2), zp_us, hfr, a4]) (fun x hx hne => by
      by_cases e : x = had
      · simp [e, zp_us]
      · simp [zp_un e, zp_un hne])
    omega
  · intro i h1 h2
    obtain ⟨x, x1, x2, x3, x4, x5⟩ := hlow i h1 (by omega)
    refine ⟨x, x1, ?_, by rw [zp_un x2]; exact x3, x4, x5⟩
    intro e
    have h9 : q i = q j := by rw [← x3, e, a3]
    have := hinj i j (by omega) (Nat.le_refl j) h9
    omega
  · intro i h1 e
    rw [zp_un a2, a3] at e
    have := hinj j i (Nat.le_refl j) (by omega) e
    omega
  · intro i i' h1 h2
    exact hinj i i' (by omega) (by omega)
/-- the search: f of the l in the queue are done; zp_H: the one at f is being done, up to b -/
def zp_G (R : Nat) (g : Nat → Nat) (k : Nat) (mt fr q : Nat → Nat) (f l : Nat) : Prop :=
  f ≤ l ∧ zp_Q R g k mt fr q l ∧ (∀ b, b < R → fr b ≠ 8 → ∃ i, 1 ≤ i ∧ i < l ∧ q i = mt b) ∧ l = 1 + zp_n R fr ∧ (∀ i, i < f → ∀ b, b < R → (g (q i)).testBit b = true → fr b ≠ 8)
def zp_H (R : Nat) (g : Nat → Nat) (k : Nat) (mt fr q : Nat → Nat) (f l b0 : Nat) : Prop :=
  f < l ∧ zp_Q R g k mt fr q l ∧ (∀ b, b < R → fr b ≠ 8 → ∃ i, 1 ≤ i ∧ i < l ∧ q i = mt b) ∧ l = 1 + zp_n R fr ∧ (∀ i, i < f → ∀ b, b < R → (g (q i)).testBit b = true → fr b ≠ 8) ∧ (∀ b, b < b0 → b < R → (g (q f)).testBit b = true → fr b ≠ 8)
theorem zp_G_init {R : Nat} {g : Nat → Nat} {k : Nat} {mt fr q : Nat → Nat} (hfr : ∀ b, b < R → fr b = 8) (h0 : q 0 = k) : zp_G R g k mt fr q 0 1 := by
  refine ⟨by omega, ⟨by omega, h0, fun i h1 h2 => absurd h2 (by omega), fun i j h1 h2 _ => by omega⟩, fun b hb hn => absurd (hfr b hb) hn, ?_, fun i hi => absurd hi (by omega)⟩
  rw [zp_n_0 hfr]
theorem zp_Q_ne {R : Nat} {g : Nat → Nat} {k : Nat} {mt fr q : Nat → Nat} {l : Nat} (hk : k < 8) (h : zp_Q R g k mt fr q l) {i : Nat} (hi : i < l) : q i ≠ 8 := by
  rcases Nat.eq_zero_or_pos i with z | z
  · rw [z, h.2.1]
    omega
  · obtain ⟨b', a1, a2, a3, _⟩ := h.2.2.1 i z hi
    exact a3
theorem zp_H_start {R : Nat} {g : Nat → Nat} {k : Nat} {mt fr q : Nat → Nat} {f l : Nat} (h : zp_G R g k mt fr q f l) (hf : f < l) : zp_H R g k mt fr q f l 0 :=
  ⟨hf, h.2.1, h.2.2.1, h.2.2.2.1, h.2.2.2.2, fun b hb => absurd hb (by omega)⟩
theorem zp_H_skip {R : Nat} {g : Nat → Nat} {k : Nat} {mt fr q : Nat → Nat} {f l b0 : Nat} (h : zp_H R g k mt fr q f l b0) (hs : (g (q f)).testBit b0 = false ∨ fr b0 ≠ 8) : zp_H R g k mt fr q f l (b0 + 1) := by
  obtain ⟨h1, h2, h3, h4, h5, h6⟩ := h
  refine ⟨h1, h2, h3, h4, h5, ?_⟩
  intro b hb hR hE
  rcases Nat.lt_or_ge b b0 with c | c
  · exact h6 b c hR hE
  · have e : b = b0 := by omega
    subst e
    rcases hs with x | x
    · rw [x] at hE
      cases hE
    · exact x
theorem zp_H_end {R : Nat} {g : Nat → Nat} {k : Nat} {mt fr q : Nat → Nat} {f l b0 : Nat} (h : zp_H R g k mt fr q f l b0) (hb : R ≤ b0) : zp_G R g k mt fr q (f + 1) l := by
  obtain ⟨h1, h2, h3, h4, h5, h6⟩ := h
  refine ⟨by omega, h2, h3, h4, ?_⟩
  intro i hi b hb' hE
  rcases Nat.lt_or_ge i f with c | c
  · exact h5 i c b hb' hE
  · have e : i = f := by omega
    subst e
    exact h6 b (by omega) hb' hE
theorem zp_H_visit {R : Nat} {g : Nat → Nat} {k : Nat} {mt fr q : Nat → Nat} {f l b : Nat} (hk : k < 8) (hM : zp_M R g k mt) (h : zp_H R g k mt fr q f l b) (hb : b < R) (hE : (g (q f)).testBit b = true) (hf : fr b = 8) (hm : mt b ≠ 8) : zp_H R g k mt (zp_u fr b (q f)) (zp_u q l (mt b)) f (l + 1) (b + 1) := by
  obtain ⟨hfl, hQ, hv, hln, hdone, hcur⟩ := h
  have q8 : ∀ i, i < l → q i ≠ 8 := fun i hi => zp_Q_ne hk hQ hi
  obtain ⟨hl, h0, hq, hi⟩ := hQ
  have hfresh : ∀ i, i < l → q i ≠ mt b := by
    intro i hi' e
    rcases Nat.eq_zero_or_pos i with z | z
    · have := (hM.1 b hb hm).1
      rw [z, h0] at e
      omega
    · obtain ⟨b', a1, a2, a3, j, a4, a5, a6⟩ := hq i z hi'
      have hbb : b' = b := hM.2 b' b a1 hb (by rw [a2, e]) (by rw [a2]; exact a3)
      rw [hbb] at a5
      exact (q8 j (by omega)) (by rw [← a5, hf])
  have qn : ∀ i, i < l → zp_u q l (mt b) i = q i := fun i hi => zp_un (by omega)
  have ql : zp_u q l (mt b) l = mt b := zp_us
  have fn : ∀ x, fr x ≠ 8 → zp_u fr b (q f) x = fr x := fun x hx => zp_un (fun e => hx (by rw [e, hf]))
  have fb : zp_u fr b (q f) b = q f := zp_us
  have fk : ∀ x, fr x ≠ 8 → zp_u fr b (q f) x ≠ 8 := fun x hx => by rw [fn x hx]; exact hx
  refine ⟨by omega, ⟨by omega, ?_, ?_, ?_⟩, ?_, ?_, ?_, ?_⟩
  · rw [qn 0 (by omega)]
    exact h0
  · intro i h1 h2
    rcases Nat.lt_or_ge i l with c | c
    · obtain ⟨b', a1, a2, a3, j, a4, a5, a6⟩ := hq i h1 c
      have hne : fr b' ≠ 8 := by rw [a5]; exact q8 j (by omega)
      refine ⟨b', a1, ?_, ?_, j, a4, ?_, ?_⟩
      · rw [qn i c]; exact a2
      · rw [qn i c]; exact a3
      · rw [fn b' hne, qn j (by omega)]; exact a5
      · rw [qn j (by omega)]; exact a6
    · have e : i = l := by omega
      subst e
      refine ⟨b, hb, ql.symm, ?_, f, hfl, ?_, ?_⟩
      · rw [ql]; exact hm
      · rw [fb, qn f hfl]
      · rw [qn f hfl]; exact hE
  · intro i j h1 h2 e
    rcases Nat.lt_or_ge i l with c | c
    · rcases Nat.lt_or_ge j l with d | d
      · rw [qn i c, qn j d] at e
        exact hi i j c d e
      · have e2 : j = l := by omega
        subst e2
        rw [qn i c, ql] at e
        exact absurd e (hfresh i c)
    · have e2 : i = l := by omega
      subst e2
      rcases Nat.lt_or_ge j i with d | d
      · rw [qn j d, ql] at e
        exact absurd e.symm (hfresh j d)
      · omega
  · intro x hx hn
    by_cases e : x = b
    · exact ⟨l, by omega, by omega, by rw [ql, e]⟩
    · rw [zp_un e] at hn
      obtain ⟨i, i1, i2, i3⟩ := hv x hx hn
      exact ⟨i, i1, by omega, by rw [qn i i2]; exact i3⟩
  · have : zp_n R (zp_u fr b (q f)) = zp_n R fr + 1 := zp_cnt_up hb (by simp [hf]) (by simp [fb, q8 f hfl]) (fun x hx hne => by rw [zp_un hne])
    omega
  · intro i hi' x hx hEx
    rw [qn i (by omega)] at hEx
    exact fk x (hdone i hi' x hx hEx)
  · intro x hx hR hEx
    rw [qn f hfl] at hEx
    by_cases e : x = b
    · rw [e, fb]
      exact q8 f hfl
    · exact fk x (hcur x (by omega) hR hEx)
theorem zp_H_found {R : Nat} {g : Nat → Nat} {k : Nat} {mt fr q : Nat → Nat} {f l b : Nat} (hk : k < 8) (hM : zp_M R g k mt) (h : zp_H R g k mt fr q f l b) (hb : b < R) (hE : (g (q f)).testBit b = true) (hm : mt b = 8) : zp_T R g k (zp_u fr b (q f)) q (zp_n R mt) b f mt := by
  obtain ⟨hfl, hQ, hv, hln, hdone, hcur⟩ := h
  obtain ⟨hl, h0, hq, hi⟩ := hQ
  refine zp_T_start (l := l) hk hM ⟨hl, h0, ?_, hi⟩ hb hm hfl zp_us hE
  intro i h1 h2
  obtain ⟨b', a1, a2, a3, j, a4, a5, a6⟩ := hq i h1 h2
  refine ⟨b', a1, a2, a3, j, a4, ?_, a6⟩
  rw [zp_un (fun e => a3 (by rw [← a2, e, hm]))]
  exact a5
theorem zp_H_l {R : Nat} {g : Nat → Nat} {k : Nat} {mt fr q : Nat → Nat} {f l b : Nat} (h : zp_H R g k mt fr q f l b) (hb : b < R) (hf : fr b = 8) : l ≤ R := by
  have : zp_n R fr < R := zp_cnt_lt hb (by simp [hf])
  have := h.2.2.2.1
  omega
theorem zp_G_end {R : Nat} {g : Nat → Nat} {k : Nat} {mt fr q : Nat → Nat} {f l : Nat} (hM : zp_M R g k mt) (h : zp_G R g k mt fr q f l) (hfl : l ≤ f) (hC : zp_C R g k (zp_n R mt)) : zp_C R g (k + 1) (zp_n R mt) := by
  obtain ⟨h1, ⟨hl, h0, hq, hi⟩, hv, hln, hdone⟩ := h
  obtain ⟨X, Y, hc, hn⟩ := hC
  refine ⟨fun a => X a && !zp_any l (fun i => q i == a), fun b => Y b || !(fr b == 8), ?_, ?_⟩
  · intro a b ha hb hE
    cases hs : zp_any l (fun i => q i == a) with
    | true =>
      obtain ⟨i, i1, i2⟩ := zp_any_iff.mp hs
      have e : q i = a := by simpa using i2
      have := hdone i (by omega) b hb (by rw [e]; exact hE)
      right
      simp [this]
    | false =>
      have hak : a ≠ k := by
        intro e
        have : zp_any l (fun i => q i == a) = true := zp_any_iff.mpr ⟨0, by omega, by simp [h0, e]⟩
        rw [hs] at this
        cases this
      rcases hc a b (by omega) hb hE with x | x
      · left
        simp [x, hs]
      · right
        simp [x]
  · have sk : zp_any l (fun i => q i == k) = true := zp_any_iff.mpr ⟨0, by omega, by simp [h0]⟩
    have e1 : zp_cnt (k + 1) (fun a => X a && !zp_any l (fun i => q i == a)) = zp_cnt k (fun a => X a && !zp_any l (fun i => q i == a)) := by
      show zp_cnt k _ + (X k && !zp_any l (fun i => q i == k)).toNat = _
      rw [sk]
      simp
    have e2 := zp_cnt_split (n := k) X (fun a => zp_any l (fun i => q i == a))
    have e3 := zp_cnt_split (n := R) (fun b => Y b || !(fr b == 8)) Y
    have e4 : zp_cnt R (fun i => (Y i || !(fr i == 8)) && Y i) = zp_cnt R Y := zp_cnt_congr (fun i _ => by cases Y i <;> simp)
    have e5 : zp_cnt R (fun i => (Y i || !(fr i == 8)) && !Y i) ≤ zp_cnt k (fun i => X i && zp_any l (fun j => q j == i)) := by
      have hall : ∀ b, b < R → ((Y b || !(fr b == 8)) && !Y b) = true → mt b ≠ 8 ∧ mt b < k ∧ X (mt b) = true ∧ zp_any l (fun j => q j == mt b) = true := by
        intro b hb hx
        have hy : Y b = false := by
          cases hyy : Y b with
          | false => rfl
          | true => simp [hyy] at hx
        have hf : fr b ≠ 8 := by
          intro e
          simp [hy, e] at hx
        obtain ⟨i, i1, i2, i3⟩ := hv b hb hf
        obtain ⟨b', a1, a2, a3, _⟩ := hq i i1 i2
        have hm : mt b ≠ 8 := by rw [← i3]; exact a3
        obtain ⟨m1, m2⟩ := hM.1 b hb hm
        refine ⟨hm, m1, ?_, zp_any_iff.mpr ⟨i, i2, by simp [i3]⟩⟩
        rcases hc (mt b) b m1 hb m2 with x | x
        · exact x
        · rw [hy] at x
          cases x
      refine zp_cnt_inj mt _ (fun b hb hx => ?_) (fun b b' hb hb' hx hx' e => ?_)
      · obtain ⟨m1, m2, m3, m4⟩ := hall b hb hx
        exact ⟨m2, by simp [m3, m4]⟩
      · exact hM.2 b b' hb hb' e (hall b hb hx).1
    omega
theorem zp_C_up {R : Nat} {g : Nat → Nat} {k c : Nat} (h : zp_C R g k c) : zp_C R g (k + 1) (c + 1) := by
  obtain ⟨X, Y, hc, hn⟩ := h
  refine ⟨fun a => a == k || X a, Y, ?_, ?_⟩
  · intro a b ha hb hE
    by_cases e : a = k
    · left
      simp [e]
    · rcases hc a b (by omega) hb hE with x | x
      · left
        simp [x]
      · right
        exact x
  · have e1 : zp_cnt k (fun a => a == k || X a) = zp_cnt k X := zp_cnt_congr (fun i hi => by
      have : i ≠ k := by omega
      simp [this])
    have e2 : zp_cnt (k + 1) (fun a => a == k || X a) = zp_cnt k (fun a => a == k || X a) + 1 := by
      show zp_cnt k _ + (k == k || X k).toNat = _
      simp
    omega
end
section
/-! the reference's numbers: plain Lean -/
def zp_rch (R : Nat) (g : Nat → Nat) : Nat → Nat → Bool
  | 0, s => s == 0
  | a + 1, s => zp_rch R g a s || zp_any R (fun b => s.testBit b && (g a).testBit b && zp_rch R g a (zp_clr s b))
def zp_mx : Nat → (Nat → Nat) → Nat
  | 0, _ => 0
  | n + 1, f => if zp_mx n f < f n then f n else zp_mx n f
def zp_mn : Nat → (Nat → Nat) → Nat
  | 0, _ => 99
  | n + 1, f => if f n < zp_mn n f then f n else zp_mn n f
def zp_or (g : Nat → Nat) : Nat → (Nat → Bool) → Nat
  | 0, _ => 0
  | n + 1, P => if P n = true then zp_or g n P ||| g n else zp_or g n P
/-- p is the number of a pairing and of a cover -/
def zp_Nu (R : Nat) (g : Nat → Nat) (L p : Nat) : Prop := (∃ mt, zp_M R g L mt ∧ zp_n R mt = p) ∧ zp_C R g L p
theorem zp_mx_le {n : Nat} {f : Nat → Nat} {p : Nat} (h : ∀ i, i < n → f i ≤ p) : zp_mx n f ≤ p := by
  induction n with
  | zero => exact Nat.zero_le _
  | succ n ih =>
    have h1 := ih (fun i hi => h i (by omega))
    have h2 := h n (by omega)
    simp only [zp_mx]
    split <;> omega
theorem zp_mx_ge {n : Nat} {f : Nat → Nat} {i : Nat} (hi : i < n) : f i ≤ zp_mx n f := by
  induction n with
  | zero => omega
  | succ n ih =>
    simp only [zp_mx]
    rcases Nat.lt_or_ge i n with q | q
    · have := ih q
      split <;> omega
    · have e : i = n := by omega
      subst e
      split <;> omega
theorem zp_mx_eq {n : Nat} {f : Nat → Nat} {p : Nat} (h : ∀ i, i < n → f i ≤ p) (h2 : ∃ i, i < n ∧ p ≤ f i) : zp_mx n f = p := by
  obtain ⟨i, h3, h4⟩ := h2
  have := zp_mx_le h
  have := zp_mx_ge (f := f) h3
  omega
theorem zp_mn_ge {n : Nat} {f : Nat → Nat} {p : Nat} (hp : p ≤ 99) (h : ∀ i, i < n → p ≤ f i) : p ≤ zp_mn n f := by
  induction n with
  | zero => exact hp
  | succ n ih =>
    have h1 := ih (fun i hi => h i (by omega))
    have h2 := h n (by omega)
    simp only [zp_mn]
    split <;> omega
theorem zp_mn_le {n : Nat} {f : Nat → Nat} {i : Nat} (hi : i < n) : zp_mn n f ≤ f i := by
  induction n with
  | zero => omega
  | succ n ih =>
    simp only [zp_mn]
    rcases Nat.lt_or_ge i n with q | q
    · have := ih q
      split <;> omega
    · have e : i = n := by omega
      subst e
      split <;> omega
theorem zp_mn_99 {n : Nat} {f : Nat → Nat} : zp_mn n f ≤ 99 := by
  induction n with
  | zero => exact Nat.le_refl _
  | succ n ih =>
    simp only [zp_mn]
    split <;> omega
theorem zp_mn_eq {n : Nat} {f : Nat → Nat} {p : Nat} (hp : p ≤ 99) (h : ∀ i, i < n → p ≤ f i) (h2 : ∃ i, i < n ∧ f i ≤ p) : zp_mn n f = p := by
  obtain ⟨i, h3, h4⟩ := h2
  have := zp_mn_ge hp h
  have := zp_mn_le (f := f) h3
  omega
theorem zp_or_bit {g : Nat → Nat} {n : Nat} {P : Nat → Bool} {b : Nat} : (zp_or g n P).testBit b = zp_any n (fun a => P a && (g a).testBit b) := by
  induction n with
  | zero => simp [zp_or, zp_any]
  | succ n ih =>
    simp only [zp_or, zp_any]
    split
    · rename_i h
      rw [Nat.testBit_or, ih, h]
      simp
    · rename_i h
      rw [ih]
      simp [h]
theorem zp_or_lt {g : Nat → Nat} {n R : Nat} {P : Nat → Bool} (h : ∀ a, g a < 2 ^ R) : zp_or g n P < 2 ^ R := by
  induction n with
  | zero => exact Nat.two_pow_pos R
  | succ n ih =>
    simp only [zp_or]
    split
    · exact Nat.or_lt_two_pow ih (h n)
    · exact ih
/-- weak duality -/
theorem zp_weak {R : Nat} {g : Nat → Nat} {L : Nat} {mt : Nat → Nat} {X Y : Nat → Bool} (hM : zp_M R g L mt) (hc : ∀ a b, a < L → b < R → (g a).testBit b = true → X a = true ∨ Y b = true) : zp_n R mt ≤ zp_cnt L X + zp_cnt R Y := by
  have e1 : zp_n R mt = _ := zp_cnt_split (n := R) (fun b => !(mt b == 8)) Y
  have e2 : zp_cnt R (fun i => !(mt i == 8) && Y i) ≤ zp_cnt R Y := zp_cnt_mono (fun i _ h => by
    cases hy : Y i with
    | true => rfl
    | false => simp [hy] at h)
  have hall : ∀ b, b < R → (!(mt b == 8) && !Y b) = true → mt b ≠ 8 ∧ mt b < L ∧ X (mt b) = true := by
    intro b hb hx
    have hm : mt b ≠ 8 := by
      intro e
      simp [e] at hx
    have hy : Y b = false := by
      cases hy : Y b with
      | false => rfl
      | true => simp [hy] at hx
    obtain ⟨m1, m2⟩ := hM.1 b hb hm
    refine ⟨hm, m1, ?_⟩
    rcases hc (mt b) b m1 hb m2 with x | x
    · exact x
    · rw [hy] at x
      cases x
  have e3 : zp_cnt R (fun i => !(mt i == 8) && !Y i) ≤ zp_cnt L X := by
    refine zp_cnt_inj mt _ (fun b hb hx => ?_) (fun b b' hb hb' hx hx' e => ?_)
    · exact (hall b hb hx).2
    · exact hM.2 b b' hb hb' e (hall b hb hx).1
  omega
theorem zp_Nu_le {R : Nat} {g : Nat → Nat} {L p : Nat} (h : zp_Nu R g L p) : p ≤ L ∧ p ≤ R := by
  obtain ⟨⟨mt, hM, hn⟩, _⟩ := h
  have h1 := zp_weak (X := fun _ => true) (Y := fun _ => false) hM (fun _ _ _ _ _ => Or.inl rfl)
  have h2 : zp_cnt R (fun _ => false) = 0 := zp_cnt_0 (fun _ _ => rfl)
  have h3 : zp_cnt L (fun _ => true) ≤ L := zp_cnt_le
  have h4 : zp_n R mt ≤ R := zp_cnt_le
  omega
theorem zp_rch_le {R : Nat} {g : Nat → Nat} {X Y : Nat → Bool} (hR : R ≤ 8) : ∀ a s, s < 2 ^ R → zp_rch R g a s = true → (∀ a' b, a' < a → b < R → (g a').testBit b = true → X a' = true ∨ Y b = true) → zp_cnt R (fun b => s.testBit b && !Y b) ≤ zp_cnt a X := by
  intro a
  induction a with
  | zero =>
    intro s hs h _
    have e : s = 0 := by simpa [zp_rch] using h
    subst e
    rw [zp_cnt_0 (fun i _ => by simp)]
    exact Nat.zero_le _
  | succ a ih =>
    intro s hs h hc
    have hc' : ∀ a' b, a' < a → b < R → (g a').testBit b = true → X a' = true ∨ Y b = true := fun a' b h1 => hc a' b (by omega)
    simp only [zp_rch, Bool.or_eq_true] at h
    rcases h with h | h
    · have := ih s hs h hc'
      simp only [zp_cnt]
      omega
    · obtain ⟨b, hb, hx⟩ := zp_any_iff.mp h
      simp only [Bool.and_eq_true] at hx
      obtain ⟨⟨x1, x2⟩, x3⟩ := hx
      have h256 : s < 256 := Nat.lt_of_lt_of_le hs (zp_pow hR)
      have hlt := zp_clr_lt s h256 b (by omega) x1
      have hi := ih (zp_clr s b) (by omega) x3 hc'
      have hbit : ∀ i, i < R → (zp_clr s b).testBit i = (s.testBit i && !(i == b)) := fun i hi => zp_clr_bit s h256 b (by omega) i (by omega)
      cases hy : Y b with
      | true =>
        have e : zp_cnt R (fun b => s.testBit b && !Y b) = zp_cnt R (fun i => (zp_clr s b).testBit i && !Y i) := zp_cnt_congr (fun i hi => by
          rw [hbit i hi]
          by_cases e : i = b
          · rw [e, hy]
            simp
          · have e2 : (i == b) = false := beq_eq_false_iff_ne.mpr e
            rw [e2]
            simp only [Bool.not_false, Bool.and_true])
        simp only [zp_cnt]
        omega
      | false =>
        have hX : X a = true := by
          rcases hc a b (by omega) hb x2 with x | x
          · exact x
          · rw [hy] at x
            cases x
        have e : zp_cnt R (fun b => s.testBit b && !Y b) = zp_cnt R (fun i => (zp_clr s b).testBit i && !Y i) + 1 := zp_cnt_up hb (by simp [hbit b hb]) (by simp [x1, hy]) (fun i hi hne => by
          have e2 : (i == b) = false := beq_eq_false_iff_ne.mpr hne
          rw [hbit i hi, e2]
          simp only [Bool.not_false, Bool.and_true])
        simp only [zp_cnt, hX, Bool.toNat_true]
        omega
theorem zp_mk_congr {n : Nat} {P Q : Nat → Bool} (h : ∀ i, i < n → P i = Q i) : zp_mk n P = zp_mk n Q := by
  induction n with
  | zero => rfl
  | succ n ih =>
    simp only [zp_mk]
    rw [ih (fun i hi => h i (by omega)), h n (by omega)]
theorem zp_mk_0 {n : Nat} {P : Nat → Bool} (h : ∀ i, i < n → P i = false) : zp_mk n P = 0 := by
  induction n with
  | zero => rfl
  | succ n ih =>
    simp only [zp_mk]
    rw [ih (fun i hi => h i (by omega)), h n (by omega)]
    simp
theorem zp_rch_mt {R : Nat} {g : Nat → Nat} {L : Nat} {mt : Nat → Nat} (hR : R ≤ 8) (hL : L ≤ 8) (hM : zp_M R g L mt) : ∀ a, a ≤ L → zp_rch R g a (zp_mk R (fun b => decide (mt b < a))) = true := by
  intro a
  induction a with
  | zero =>
    intro _
    rw [zp_mk_0 (fun i _ => by simp)]
    rfl
  | succ a ih =>
    intro ha
    have hi := ih (by omega)
    simp only [zp_rch, Bool.or_eq_true]
    by_cases hex : ∃ b, b < R ∧ mt b = a
    · right
      obtain ⟨b, hb, hm⟩ := hex
      refine zp_any_iff.mpr ⟨b, hb, ?_⟩
      have h256 : zp_mk R (fun b => decide (mt b < a + 1)) < 256 := Nat.lt_of_lt_of_le zp_mk_lt (zp_pow hR)
      have h256' : zp_mk R (fun b => decide (mt b < a)) < 256 := Nat.lt_of_lt_of_le zp_mk_lt (zp_pow hR)
      have hbit : (zp_mk R (fun b => decide (mt b < a + 1))).testBit b = true := by
        rw [zp_mk_bit]
        simp [hb, hm]
      have hE : (g a).testBit b = true := by
        have := (hM.1 b hb (by omega)).2
        rw [hm] at this
        exact this
      have hclr : zp_clr (zp_mk R (fun b => decide (mt b < a + 1))) b = zp_mk R (fun b => decide (mt b < a)) := by
        have hlt := zp_clr_lt _ h256 b (by omega) hbit
        refine Nat.eq_of_testBit_eq (fun i => ?_)
        rcases Nat.lt_or_ge i 8 with c | c
        · rw [zp_clr_bit _ h256 b (by omega) i c, zp_mk_bit, zp_mk_bit]
          by_cases e : i = b
          · subst e
            simp [hm]
          · rcases Nat.lt_or_ge i R with d | d
            · have : mt i ≠ a := fun e2 => e (hM.2 i b d hb (by rw [e2, hm]) (by omega))
              have e3 : (mt i < a + 1) ↔ (mt i < a) := by omega
              simp [e, e3]
            · have : ¬ i < R := by omega
              simp [this]
        · have hp : 256 ≤ 2 ^ i := Nat.pow_le_pow_right (n := 2) (by omega) c
          rw [Nat.testBit_lt_two_pow (by omega), Nat.testBit_lt_two_pow (by omega)]
      rw [hclr, hbit, hE, hi]
      rfl
    · left
      have e : zp_mk R (fun b => decide (mt b < a + 1)) = zp_mk R (fun b => decide (mt b < a)) := zp_mk_congr (fun i hi => by
        have : mt i ≠ a := fun e => hex ⟨i, hi, e⟩
        have e3 : (mt i < a + 1) ↔ (mt i < a) := by omega
        simp [e3])
      rw [e]
      exact hi
theorem zp_pairs {R : Nat} {g : Nat → Nat} {L p : Nat} (hR : R ≤ 8) (hL : L ≤ 8) (h : zp_Nu R g L p) : zp_mx (2 ^ R) (fun s => if zp_rch R g L s = true then zp_pc s else 0) = p := by
  obtain ⟨⟨mt, hM, hn⟩, X, Y, hc, hcn⟩ := h
  refine zp_mx_eq (fun s hs => ?_) ?_
  · split
    · rename_i hr
      have h1 := zp_rch_le hR L s hs hr hc
      have h2 := zp_cnt_split (n := R) (fun b => s.testBit b) Y
      have h3 : zp_cnt R (fun i => s.testBit i && Y i) ≤ zp_cnt R Y := zp_cnt_mono (fun i _ h => by
        cases hy : Y i with
        | true => rfl
        | false => simp [hy] at h)
      rw [zp_pc_R hR hs]
      omega
    · exact Nat.zero_le _
  · refine ⟨zp_mk R (fun b => decide (mt b < L)), zp_mk_lt, ?_⟩
    rw [if_pos (zp_rch_mt hR hL hM L (Nat.le_refl L)), zp_pc_R hR zp_mk_lt, ← hn]
    refine Nat.le_of_eq (zp_cnt_congr (fun i hi => ?_))
    rw [zp_mk_bit]
    by_cases e : mt i = 8
    · have : ¬ mt i < L := by omega
      simp [e]
      omega
    · have := (hM.1 i hi e).1
      simp [e, hi, this]
theorem zp_cover_or {R : Nat} {g : Nat → Nat} {L : Nat} (P : Nat → Bool) : ∀ a b, a < L → b < R → (g a).testBit b = true → (!P a) = true ∨ (zp_or g L P).testBit b = true := by
  intro a b ha hb hE
  cases hp : P a with
  | false => left; rfl
  | true =>
    right
    rw [zp_or_bit]
    exact zp_any_iff.mpr ⟨a, ha, by simp [hp, hE]⟩
theorem zp_or_Y {R : Nat} {g : Nat → Nat} {L : Nat} {X Y : Nat → Bool} (hR : R ≤ 8) (hg : ∀ a, g a < 2 ^ R) (P : Nat → Bool) (hP : ∀ a, a < L → P a = true → X a = false) (hc : ∀ a b, a < L → b < R → (g a).testBit b = true → X a = true ∨ Y b = true) : zp_pc (zp_or g L P) ≤ zp_cnt R Y := by
  rw [zp_pc_R hR (zp_or_lt hg)]
  refine zp_cnt_mono (fun b hb h => ?_)
  rw [zp_or_bit] at h
  obtain ⟨a, ha, hx⟩ := zp_any_iff.mp h
  simp only [Bool.and_eq_true] at hx
  rcases hc a b ha hb hx.2 with x | x
  · rw [hP a ha hx.1] at x
    cases x
  · exact x
theorem zp_watch {R : Nat} {g : Nat → Nat} {L p : Nat} (hR : R ≤ 8) (hL : L ≤ 8) (hg : ∀ a, g a < 2 ^ R) (h : zp_Nu R g L p) : zp_mn (2 ^ L) (fun s => zp_pc s + zp_pc (zp_or g L (fun a => !s.testBit a))) = p := by
  have hle := zp_Nu_le h
  obtain ⟨⟨mt, hM, hn⟩, X, Y, hc, hcn⟩ := h
  refine zp_mn_eq (by omega) (fun s hs => ?_) ?_
  · have h1 : zp_n R mt ≤ zp_cnt L (fun b => s.testBit b) + zp_cnt R (fun b => (zp_or g L (fun a => !s.testBit a)).testBit b) := zp_weak hM (fun a b ha hb hE => by
      have := zp_cover_or (R := R) (g := g) (L := L) (fun a => !s.testBit a) a b ha hb hE
      simpa using this)
    rw [zp_pc_R hL hs, zp_pc_R hR (zp_or_lt hg)]
    omega
  · refine ⟨zp_mk L X, zp_mk_lt, ?_⟩
    have h1 : zp_pc (zp_mk L X) = zp_cnt L X := by
      rw [zp_pc_R hL zp_mk_lt]
      exact zp_cnt_congr (fun i hi => by rw [zp_mk_bit]; simp [hi])
    have h2 : zp_pc (zp_or g L (fun a => !(zp_mk L X).testBit a)) ≤ zp_cnt R Y := zp_or_Y hR hg _ (fun a ha hp => by
      rw [zp_mk_bit] at hp
      cases hx : X a with
      | false => rfl
      | true => simp [ha, hx] at hp) hc
    show zp_pc (zp_mk L X) + zp_pc (zp_or g L (fun a => !(zp_mk L X).testBit a)) ≤ p
    omega
theorem zp_lack {R : Nat} {g : Nat → Nat} {L p : Nat} (hR : R ≤ 8) (hL : L ≤ 8) (hg : ∀ a, g a < 2 ^ R) (h : zp_Nu R g L p) : zp_mx (2 ^ L) (fun s => zp_pc s - zp_pc (zp_or g L (fun a => s.testBit a))) = L - p := by
  have hle := zp_Nu_le h
  obtain ⟨⟨mt, hM, hn⟩, X, Y, hc, hcn⟩ := h
  refine zp_mx_eq (fun s hs => ?_) ?_
  · have h1 : zp_n R mt ≤ zp_cnt L (fun b => !s.testBit b) + zp_cnt R (fun b => (zp_or g L (fun a => s.testBit a)).testBit b) := zp_weak hM (zp_cover_or (R := R) (g := g) (L := L) (fun a => s.testBit a))
    have h2 := zp_cnt_not (n := L) (fun a => s.testBit a)
    rw [zp_pc_R hL hs, zp_pc_R hR (zp_or_lt hg)]
    omega
  · refine ⟨zp_mk L (fun a => !X a), zp_mk_lt, ?_⟩
    have h1 : zp_pc (zp_mk L (fun a => !X a)) = zp_cnt L (fun a => !X a) := by
      rw [zp_pc_R hL zp_mk_lt]
      exact zp_cnt_congr (fun i hi => by rw [zp_mk_bit]; simp [hi])
    have h2 : zp_pc (zp_or g L (fun a => (zp_mk L (fun a => !X a)).testBit a)) ≤ zp_cnt R Y := zp_or_Y hR hg _ (fun a ha hp => by
      rw [zp_mk_bit] at hp
      cases hx : X a with
      | false => rfl
      | true => simp [hx] at hp) hc
    have h3 := zp_cnt_not (n := L) X
    show L - p ≤ zp_pc (zp_mk L (fun a => !X a)) - zp_pc (zp_or g L (fun a => (zp_mk L (fun a => !X a)).testBit a))
    omega
/-- the number of full pairings of the first a lefts with the set s -/
def zp_F (R : Nat) (g : Nat → Nat) : Nat → Nat → Int64
  | 0, s => if s = 0 then 1 else 0
  | a + 1, s => zp_S R (fun b => if (s.testBit b && (g a).testBit b) = true then zp_F R g a (zp_clr s b) else 0)
theorem zp_F_z {R : Nat} {g : Nat → Nat} (hR : R ≤ 8) : ∀ a s, s < 2 ^ R → zp_pc s ≠ a → zp_F R g a s = 0 := by
  intro a
  induction a with
  | zero =>
    intro s hs h
    simp only [zp_F]
    rw [if_neg]
    intro e
    rw [e] at h
    exact h zp_pc_0
  | succ a ih =>
    intro s hs h
    simp only [zp_F]
    refine zp_S_0 (fun b hb => ?_)
    split
    · rename_i hx
      simp only [Bool.and_eq_true] at hx
      have h256 : s < 256 := Nat.lt_of_lt_of_le hs (zp_pow hR)
      have h1 := zp_clr_lt s h256 b (by omega) hx.1
      have h2 := zp_pc_clr s h256 b (by omega) hx.1
      exact ih _ (by omega) (by omega)
    · rfl
/-- the class's answer -/
def zp_full (R : Nat) (g : Nat → Nat) (L : Nat) : Int64 := zp_S (2 ^ R) (zp_F R g L)
/-- the reference's array after a rows -/
def zp_V (R : Nat) (g : Nat → Nat) (a t : Nat) : Int64 := if zp_pc t ≤ a then zp_F R g (zp_pc t) t else 0
theorem zp_V_0 {R : Nat} {g : Nat → Nat} {t : Nat} (h : t < 256) : zp_V R g 0 t = if t = 0 then 1 else 0 := by
  unfold zp_V
  by_cases e : t = 0
  · subst e
    rw [zp_pc_0]
    simp [zp_F]
  · have : zp_pc t ≠ 0 := fun h2 => e (zp_pc_z t h h2)
    rw [if_neg (by omega), if_neg e]
theorem zp_V_same {R : Nat} {g : Nat → Nat} {a t : Nat} (h : zp_pc t ≠ a + 1) : zp_V R g (a + 1) t = zp_V R g a t := by
  unfold zp_V
  by_cases e : zp_pc t ≤ a
  · rw [if_pos (by omega), if_pos e]
  · rw [if_neg (by omega), if_neg e]
theorem zp_V_new {R : Nat} {g : Nat → Nat} {a t : Nat} (hR : R ≤ 8) (ht : t < 2 ^ R) (h : zp_pc t = a + 1) : zp_V R g (a + 1) t = zp_S R (fun b => if (t.testBit b && (g a).testBit b) = true then zp_V R g a (zp_clr t b) else 0) := by
  have h256 : t < 256 := Nat.lt_of_lt_of_le ht (zp_pow hR)
  unfold zp_V
  rw [if_pos (by omega), h]
  show zp_S R _ = _
  refine zp_S_congr (fun b hb => ?_)
  split
  · rename_i hx
    simp only [Bool.and_eq_true] at hx
    have h2 := zp_pc_clr t h256 b (by omega) hx.1
    have e : zp_pc (zp_clr t b) = a := by omega
    rw [e, if_pos (Nat.le_refl a)]
  · rfl
theorem zp_full_eq {R : Nat} {g : Nat → Nat} {L : Nat} (hR : R ≤ 8) : zp_S (2 ^ R) (fun s => if zp_pc s = L then zp_V R g L s else 0) = zp_full R g L := by
  refine zp_S_congr (fun s hs => ?_)
  by_cases e : zp_pc s = L
  · rw [if_pos e]
    unfold zp_V
    rw [if_pos (by omega), e]
  · rw [if_neg e, zp_F_z hR L s hs e]
theorem zp_full_z {R : Nat} {g : Nat → Nat} {L : Nat} (hR : R ≤ 8) (h : R < L) : zp_full R g L = 0 := by
  refine zp_S_0 (fun s hs => zp_F_z hR L s hs ?_)
  rw [zp_pc_R hR hs]
  have : zp_cnt R (fun b => s.testBit b) ≤ R := zp_cnt_le
  omega
end
section
/-! worlds, contracts and calls, once for all methods -/
abbrev vwCl : List vw_C := [(RX0, TX0, 7), (RX1, TX1, 9)]
/-- the machine's heap holds the cells ws, apart, in A; outside A nothing has changed since H0 -/
def zW (D : va_G) (tys : List (ClassId × FieldType)) (A : Nat → Prop) (H0 : Heap) (s : State) (ws : va_W) (H : Heap) (locs : List Loc) : Prop :=
  va_K D vwCl tys s ∧ va_P D vwCl ws H ∧ va_D A ws ∧ va_S A H0 H locs
def zB {U : Type} (D : va_G) (wf : U → va_W) (tys : List (ClassId × FieldType)) (A : Nat → Prop) (u : U) (t : State) : Prop :=
  va_P D vwCl (wf u) t.heap ∧ va_K D vwCl tys t ∧ va_D A (wf u)
def zPre {U : Type} (D : va_G) (wf : U → va_W) (tys : List (ClassId × FieldType)) (sz : Nat) (u : U) (t : State) : Prop :=
  t.heap.size = sz ∧ zB D wf tys (fun _ => True) u t
/-- contracts that make no cell: void, int (or boolean), long -/
def zCv {U : Type} (l : Launch) (y : MethodName) (b : ByteArray) (L : Nat) (rm : Room) (D : va_G) (wf : U → va_W) (tys : List (ClassId × FieldType)) (As : List Value) (u : U) (post : U → Prop) : Prop :=
  ∀ sz : Nat, Met l y (ws_ y b L none) rm (va_Pc As (zPre D wf tys sz u)) (va_Qv post (zB D wf tys (va_A (wf u) sz)) (va_A (wf u) sz)) 0 0 (va_A (wf u) sz)
def zCi {U : Type} (l : Launch) (y : MethodName) (b : ByteArray) (L : Nat) (r : FieldType) (rm : Room) (D : va_G) (wf : U → va_W) (tys : List (ClassId × FieldType)) (As : List Value) (u : U) (post : Int32 → U → Prop) : Prop :=
  ∀ sz : Nat, Met l y (ws_ y b L (some r)) rm (va_Pc As (zPre D wf tys sz u)) (va_Qi post (zB D wf tys (va_A (wf u) sz)) (va_A (wf u) sz)) 0 0 (va_A (wf u) sz)
def zCl {U : Type} (l : Launch) (y : MethodName) (b : ByteArray) (L : Nat) (rm : Room) (D : va_G) (wf : U → va_W) (tys : List (ClassId × FieldType)) (As : List Value) (u : U) (post : Int64 → U → Prop) : Prop :=
  ∀ sz : Nat, Met l y (ws_ y b L (some .long)) rm (va_Pc As (zPre D wf tys sz u)) (va_Ql post (zB D wf tys (va_A (wf u) sz)) (va_A (wf u) sz)) 0 0 (va_A (wf u) sz)
theorem zmet_v {U : Type} {l : Launch} {y : MethodName} {b : ByteArray} {L : Nat} {rm : Room} {D : va_G} {wf : U → va_W} {tys : List (ClassId × FieldType)} {As : List Value} {u : U} {post : U → Prop} (own : String) (hy : plainName y.cls = true) (hyo : y.cls = own) (hAs : (lg_sl As).length ≤ L)
    (body : ∀ (p : Program) (e : Env) (s : State) (m : MethodId) (args : Array Value) (below : List Frame) (meth : Method) (c : Code) (A : Nat → Prop) (Q : State → Prop) (ls : Array Slot), CallFix p m c b L s args lw_all own → (∀ q : Nat, s.heap.size ≤ q → A q) → zW D tys A s.heap s (wf u) s.heap [] → lv_has ls L (lv_args 0 As) →
      (∀ (H : Heap) (locs : List Loc) (pc : Nat) (ls : Array Slot) (u' : U), zW D tys A s.heap s (wf u') H locs → post u' → decode b pc = .ok (.return_, 1) → W p l e rm s m args below meth c H locs 0 0 Q (F0 m pc ls [])) →
      W p l e rm s m args below meth c s.heap [] 0 0 Q (F0 m 0 ls [])) : zCv l y b L rm D wf tys As u post := by
  intro sz
  refine Met.ofW (cc := b) (maxL := L) (ret := none) hy rfl ?_
  intro p e s m args below meth c s₁ B hml hv
  obtain ⟨rfl, hsz, hP, hK, hD0⟩ := hv
  have hts := atoms_spec (ws := ws_ y b L none) B.pre
  have hts : ∀ w ∈ lw_all, w.before _ s = true := fun w h => hts w (List.mem_cons_of_mem _ h)
  have hown : s.vm.findClass own = some m.cls := by
    rw [← hyo]
    exact findClass_of_methodNamed B.named
  have hlocks := B.notSynchronized
  subst hsz
  have hD := hD0.self (sz := s.heap.size)
  generalize hAe : va_A (wf u) s.heap.size = A at hD ⊢
  have hA : ∀ q : Nat, s.heap.size ≤ q → A q := fun q h => by rw [← hAe]; exact Or.inr h
  have hl := lv_entry As (n := L) hAs
  rw [lg_entry_eq]
  exact body p e s m _ below meth c A _ _ ⟨B.exec, B.bytes, hml, hown, hts⟩ hA ⟨hK, hP, hD, va_S.rf⟩ hl (fun H locs pc ls u' w hp d => W.vret B.exec B.bytes B.returns (fun t ht hW => ⟨⟨u', rfl, hp, by rw [ht]; exact w.2.1, va_K.moved hW.alike w.1, w.2.2.1⟩, w.2.2.2.F ht⟩) w.2.2.2.2.2 d)
theorem zmet_i {U : Type} {l : Launch} {y : MethodName} {b : ByteArray} {L : Nat} {r : FieldType} {rm : Room} {D : va_G} {wf : U → va_W} {tys : List (ClassId × FieldType)} {As : List Value} {u : U} {post : Int32 → U → Prop} (own : String) (hy : plainName y.cls = true) (hyo : y.cls = own) (hAs : (lg_sl As).length ≤ L)
    (body : ∀ (p : Program) (e : Env) (s : State) (m : MethodId) (args : Array Value) (below : List Frame) (meth : Method) (c : Code) (A : Nat → Prop) (Q : State → Prop) (ls : Array Slot), CallFix p m c b L s args lw_all own → (∀ q : Nat, s.heap.size ≤ q → A q) → zW D tys A s.heap s (wf u) s.heap [] → lv_has ls L (lv_args 0 As) →
      (∀ (H : Heap) (locs : List Loc) (pc : Nat) (ls : Array Slot) (u' : U) (v : Int32), zW D tys A s.heap s (wf u') H locs → post v u' → narrow r (.int v) = .int v → decode b pc = .ok (.ireturn, 1) → W p l e rm s m args below meth c H locs 0 0 Q (F0 m pc ls [.int v])) →
      W p l e rm s m args below meth c s.heap [] 0 0 Q (F0 m 0 ls [])) : zCi l y b L r rm D wf tys As u post := by
  intro sz
  refine Met.ofW (cc := b) (maxL := L) (ret := some r) hy rfl ?_
  intro p e s m args below meth c s₁ B hml hv
  obtain ⟨rfl, hsz, hP, hK, hD0⟩ := hv
  have hts := atoms_spec (ws := ws_ y b L (some r)) B.pre
  have hts : ∀ w ∈ lw_all, w.before _ s = true := fun w h => hts w (List.mem_cons_of_mem _ h)
  have hown : s.vm.findClass own = some m.cls := by
    rw [← hyo]
    exact findClass_of_methodNamed B.named
  have hlocks := B.notSynchronized
  subst hsz
  have hD := hD0.self (sz := s.heap.size)
  generalize hAe : va_A (wf u) s.heap.size = A at hD ⊢
  have hA : ∀ q : Nat, s.heap.size ≤ q → A q := fun q h => by rw [← hAe]; exact Or.inr h
  have hl := lv_entry As (n := L) hAs
  rw [lg_entry_eq]
  exact body p e s m _ below meth c A _ _ ⟨B.exec, B.bytes, hml, hown, hts⟩ hA ⟨hK, hP, hD, va_S.rf⟩ hl (fun H locs pc ls u' v w hp hn d => W.zret B.exec B.bytes B.returns hn (fun t ht hW => ⟨⟨v, u', rfl, hp, by rw [ht]; exact w.2.1, va_K.moved hW.alike w.1, w.2.2.1⟩, w.2.2.2.F ht⟩) w.2.2.2.2.2 d)
theorem zmet_l {U : Type} {l : Launch} {y : MethodName} {b : ByteArray} {L : Nat} {rm : Room} {D : va_G} {wf : U → va_W} {tys : List (ClassId × FieldType)} {As : List Value} {u : U} {post : Int64 → U → Prop} (own : String) (hy : plainName y.cls = true) (hyo : y.cls = own) (hAs : (lg_sl As).length ≤ L)
    (body : ∀ (p : Program) (e : Env) (s : State) (m : MethodId) (args : Array Value) (below : List Frame) (meth : Method) (c : Code) (A : Nat → Prop) (Q : State → Prop) (ls : Array Slot), CallFix p m c b L s args lw_all own → (∀ q : Nat, s.heap.size ≤ q → A q) → zW D tys A s.heap s (wf u) s.heap [] → lv_has ls L (lv_args 0 As) →
      (∀ (H : Heap) (locs : List Loc) (pc : Nat) (ls : Array Slot) (u' : U) (v : Int64), zW D tys A s.heap s (wf u') H locs → post v u' → decode b pc = .ok (.lreturn, 1) → W p l e rm s m args below meth c H locs 0 0 Q (F0 m pc ls [.long v])) →
      W p l e rm s m args below meth c s.heap [] 0 0 Q (F0 m 0 ls [])) : zCl l y b L rm D wf tys As u post := by
  intro sz
  refine Met.ofW (cc := b) (maxL := L) (ret := some .long) hy rfl ?_
  intro p e s m args below meth c s₁ B hml hv
  obtain ⟨rfl, hsz, hP, hK, hD0⟩ := hv
  have hts := atoms_spec (ws := ws_ y b L (some .long)) B.pre
  have hts : ∀ w ∈ lw_all, w.before _ s = true := fun w h => hts w (List.mem_cons_of_mem _ h)
  have hown : s.vm.findClass own = some m.cls := by
    rw [← hyo]
    exact findClass_of_methodNamed B.named
  have hlocks := B.notSynchronized
  subst hsz
  have hD := hD0.self (sz := s.heap.size)
  generalize hAe : va_A (wf u) s.heap.size = A at hD ⊢
  have hA : ∀ q : Nat, s.heap.size ≤ q → A q := fun q h => by rw [← hAe]; exact Or.inr h
  have hl := lv_entry As (n := L) hAs
  rw [lg_entry_eq]
  exact body p e s m _ below meth c A _ _ ⟨B.exec, B.bytes, hml, hown, hts⟩ hA ⟨hK, hP, hD, va_S.rf⟩ hl (fun H locs pc ls u' v w hp d => W.lret B.exec B.bytes B.returns (fun t ht hW => ⟨⟨v, u', rfl, hp, by rw [ht]; exact w.2.1, va_K.moved hW.alike w.1, w.2.2.1⟩, w.2.2.2.F ht⟩) w.2.2.2.2.2 d)
theorem zK_left {D : va_G} {cl : List vw_C} {t1 t2 : List (ClassId × FieldType)} {s : State} (h : va_K D cl (t1 ++ t2) s) : va_K D cl t1 s :=
  ⟨h.1, fun k q hk => h.2 k q (by rw [List.getElem?_append_left (List.getElem?_eq_some_iff.mp hk).1]; exact hk)⟩
theorem zP_left {D : va_G} {cl : List vw_C} {w1 w2 : va_W} {H : Heap} (h : va_P D cl (w1 ++ w2) H) : va_P D cl w1 H :=
  fun k q hk => h k q (by rw [List.getElem?_append_left (List.getElem?_eq_some_iff.mp hk).1]; exact hk)
theorem zD_left {A : Nat → Prop} {w1 w2 : va_W} (h : va_D A (w1 ++ w2)) : va_D A w1 := by
  have at' : ∀ {k : Nat} {q : Nat × va_E}, w1[k]? = some q → (w1 ++ w2)[k]? = some q := fun hk => by
    rw [List.getElem?_append_left (List.getElem?_eq_some_iff.mp hk).1]
    exact hk
  exact ⟨fun i j x y hx hy => h.1 i j x y (at' hx) (at' hy), fun k q hk => h.2 k q (at' hk)⟩
/-- the frame rule: what came back in front, the rest unchanged behind it -/
theorem zjoin {A0 : Nat → Prop} {D : va_G} {cl : List vw_C} {wc wr w1 : va_W} {H H1 : Heap} (hP : va_P D cl (wc ++ wr) H) (hD : va_D A0 (wc ++ wr)) (hk : ∀ q : Nat, q < H.size → ¬ va_A wc H.size q → H1[q]? = H[q]?) (hF : ∀ q, va_A wc H.size q → A0 q) (hP1 : va_P D cl w1 H1) (hD1 : va_D (va_A wc H.size) w1) : va_P D cl (w1 ++ wr) H1 ∧ va_D A0 (w1 ++ wr) := by
  have atL : ∀ {k : Nat} {q : Nat × va_E}, wc[k]? = some q → (wc ++ wr)[k]? = some q := fun hk => by
    rw [List.getElem?_append_left (List.getElem?_eq_some_iff.mp hk).1]
    exact hk
  have atR : ∀ {k : Nat} {q : Nat × va_E}, wr[k]? = some q → (wc ++ wr)[wc.length + k]? = some q := fun hk => by
    rw [List.getElem?_append_right (by omega)]
    rw [Nat.add_sub_cancel_left]
    exact hk
  have apart : ∀ (k : Nat) (q : Nat × va_E), wr[k]? = some q → q.1 < H.size ∧ ¬ va_A wc H.size q.1 := by
    intro k q hq
    have hl := (hP _ q (atR hq)).lt
    refine ⟨hl, fun h => ?_⟩
    rcases h with ⟨k2, e, h⟩ | h
    · have hij := hD.1 _ _ q (q.1, e) (atR hq) (atL h) rfl
      have := (List.getElem?_eq_some_iff.mp h).1
      omega
    · omega
  refine ⟨va_P.app hP1 (fun k q hq => ?_), va_D.app (hD1.weaken (fun k q _ h => hF q.1 h)) ⟨fun i j x y hx hy hxy => ?_, fun k q hq => hD.2 _ q (atR hq)⟩ (fun i j x y hx hy hxy => ?_)⟩
  · obtain ⟨g1, g2⟩ := apart k q hq
    exact (hP _ q (atR hq)).kept (hk q.1 g1 g2)
  · have := hD.1 _ _ x y (atR hx) (atR hy) hxy
    omega
  · exact (apart j y hy).2 (by rw [← hxy]; exact hD1.2 i x hx)
section ZC
variable {p : Program} {l : Launch} {e : Env} {R : Room} {s : State} {m : MethodId} {args : Array Value} {below : List Frame} {meth : Method} {c : Code} {H : Heap} {locs : List Loc} {cells slots : Nat} {Q : State → Prop}
variable {cc : ByteArray} {pc : Nat} {ls : Array Slot} {rest st0 As : List Value} {nL L n index : Nat} {own C : String} {a : Addr} {U : Type} {D : va_G} {wf : U → va_W} {tyc tyr tys : List (ClassId × FieldType)} {A0 : Nat → Prop} {H0 : Heap} {u : U} {wr ws : va_W} {y : MethodName} {b : ByteArray} {rm : Room} {r : FieldType}
theorem zfree {A0 : Nat → Prop} {wc wr : va_W} {H0 H : Heap} {locs : List Loc} (hA : ∀ q, H0.size ≤ q → A0 q) (hD : va_D A0 (wc ++ wr)) (hS : va_S A0 H0 H locs) : ∀ q, va_A wc H.size q → A0 q := by
  intro q h
  rcases h with ⟨k, e, h⟩ | h
  · exact (zD_left hD).2 k _ h
  · exact hA q (Nat.le_trans hS.1 h)
theorem zcall_v {post : U → Prop} (S : CallFix p m c cc nL s args lw_all own) (hA : ∀ q, H0.size ≤ q → A0 q) (w : zW D (tyc ++ tyr) A0 H0 s (wf u ++ wr) H locs) (hM : zCv l y b L rm D wf tyc (.ref a :: As) u post) (cw : CallW R s args own C index y b L none (ws_ y b L none) rm 0 0 n)
    (hrecv : ∃ cell : Cell, H[a]? = some cell ∧ cell.vm.isStatics = false ∧ s.vm.findClass C = some cell.cls) (hn : As.length = n) (hls : ls.size = nL) (hst : st0 = As.reverse ++ .ref a :: rest) (hroom : (rest.map fun v => v.category).sum ≤ 8) (hcs : cells ≤ R.cells ∧ slots ≤ R.slots) (d : decode cc pc = .ok (.invokevirtual index, 3))
    (kk : ∀ (u' : U) (H1 : Heap) (locs1 : List Loc), post u' → zW D (tyc ++ tyr) A0 H0 s (wf u' ++ wr) H1 locs1 → W p l e R s m args below meth c H1 locs1 cells slots Q (F0 m (pc + 3) ls rest)) : W p l e R s m args below meth c H locs cells slots Q (F0 m pc ls st0) := by
  obtain ⟨hK, hP, hD, hS⟩ := w
  have hFc := zfree hA hD hS
  refine va_callv (va_runV (As := As) (rest := rest) S (hM H.size) cw ⟨fun a U g mk q => by obtain ⟨q0, q1, qP, qK, qD⟩ := q; exact ⟨q0, q1, qP, va_K.moved (u := U) (U := U.calling g mk a) (Vm.Alike.refl U.vm) qK, qD⟩, hrecv, fun U hU hW => ⟨rfl, by rw [hU], by rw [hU]; exact zP_left hP, va_K.moved hW.alike (zK_left hK), (zD_left hD).weaken (fun _ _ _ _ => trivial)⟩⟩ rfl hn hls hst (lv_room hroom) d hcs) hS (fun q _ h => hFc q h) hFc (fun u' t H1 locs1 ht hvm hp hB hz1 hk1 hS1 => ?_)
  obtain ⟨hP1, hK1, hD1⟩ := hB
  rw [ht] at hP1
  obtain ⟨hP', hD'⟩ := zjoin hP hD hk1 hFc hP1 hD1
  exact kk u' H1 locs1 hp ⟨hK, hP', hD', hS1⟩
theorem zcall_i {post : Int32 → U → Prop} (S : CallFix p m c cc nL s args lw_all own) (hA : ∀ q, H0.size ≤ q → A0 q) (w : zW D (tyc ++ tyr) A0 H0 s (wf u ++ wr) H locs) (hM : zCi l y b L r rm D wf tyc (.ref a :: As) u post) (cw : CallW R s args own C index y b L (some r) (ws_ y b L (some r)) rm 0 0 n)
    (hrecv : ∃ cell : Cell, H[a]? = some cell ∧ cell.vm.isStatics = false ∧ s.vm.findClass C = some cell.cls) (hn : As.length = n) (hls : ls.size = nL) (hst : st0 = As.reverse ++ .ref a :: rest) (hroom : (rest.map fun v => v.category).sum ≤ 8) (hcs : cells ≤ R.cells ∧ slots ≤ R.slots) (d : decode cc pc = .ok (.invokevirtual index, 3))
    (kk : ∀ (v : Int32) (u' : U) (H1 : Heap) (locs1 : List Loc), post v u' → zW D (tyc ++ tyr) A0 H0 s (wf u' ++ wr) H1 locs1 → W p l e R s m args below meth c H1 locs1 cells slots Q (F0 m (pc + 3) ls (.int v :: rest))) : W p l e R s m args below meth c H locs cells slots Q (F0 m pc ls st0) := by
  obtain ⟨hK, hP, hD, hS⟩ := w
  have hFc := zfree hA hD hS
  refine va_calli (va_runV (As := As) (rest := rest) S (hM H.size) cw ⟨fun a U g mk q => by obtain ⟨q0, q1, qP, qK, qD⟩ := q; exact ⟨q0, q1, qP, va_K.moved (u := U) (U := U.calling g mk a) (Vm.Alike.refl U.vm) qK, qD⟩, hrecv, fun U hU hW => ⟨rfl, by rw [hU], by rw [hU]; exact zP_left hP, va_K.moved hW.alike (zK_left hK), (zD_left hD).weaken (fun _ _ _ _ => trivial)⟩⟩ rfl hn hls hst (lv_room hroom) d hcs) hS (fun q _ h => hFc q h) hFc (fun v u' t H1 locs1 ht hvm hp hB hz1 hk1 hS1 => ?_)
  obtain ⟨hP1, hK1, hD1⟩ := hB
  rw [ht] at hP1
  obtain ⟨hP', hD'⟩ := zjoin hP hD hk1 hFc hP1 hD1
  exact kk v u' H1 locs1 hp ⟨hK, hP', hD', hS1⟩
theorem zcall_l {post : Int64 → U → Prop} (S : CallFix p m c cc nL s args lw_all own) (hA : ∀ q, H0.size ≤ q → A0 q) (w : zW D (tyc ++ tyr) A0 H0 s (wf u ++ wr) H locs) (hM : zCl l y b L rm D wf tyc (.ref a :: As) u post) (cw : CallW R s args own C index y b L (some .long) (ws_ y b L (some .long)) rm 0 0 n)
    (hrecv : ∃ cell : Cell, H[a]? = some cell ∧ cell.vm.isStatics = false ∧ s.vm.findClass C = some cell.cls) (hn : As.length = n) (hls : ls.size = nL) (hst : st0 = As.reverse ++ .ref a :: rest) (hroom : (rest.map fun v => v.category).sum ≤ 8) (hcs : cells ≤ R.cells ∧ slots ≤ R.slots) (d : decode cc pc = .ok (.invokevirtual index, 3))
    (kk : ∀ (v : Int64) (u' : U) (H1 : Heap) (locs1 : List Loc), post v u' → zW D (tyc ++ tyr) A0 H0 s (wf u' ++ wr) H1 locs1 → W p l e R s m args below meth c H1 locs1 cells slots Q (F0 m (pc + 3) ls (.long v :: rest))) : W p l e R s m args below meth c H locs cells slots Q (F0 m pc ls st0) := by
  obtain ⟨hK, hP, hD, hS⟩ := w
  have hFc := zfree hA hD hS
  refine va_calll (va_runV (As := As) (rest := rest) S (hM H.size) cw ⟨fun a U g mk q => by obtain ⟨q0, q1, qP, qK, qD⟩ := q; exact ⟨q0, q1, qP, va_K.moved (u := U) (U := U.calling g mk a) (Vm.Alike.refl U.vm) qK, qD⟩, hrecv, fun U hU hW => ⟨rfl, by rw [hU], by rw [hU]; exact zP_left hP, va_K.moved hW.alike (zK_left hK), (zD_left hD).weaken (fun _ _ _ _ => trivial)⟩⟩ rfl hn hls hst (lv_room hroom) d hcs) hS (fun q _ h => hFc q h) hFc (fun v u' t H1 locs1 ht hvm hp hB hz1 hk1 hS1 => ?_)
  obtain ⟨hP1, hK1, hD1⟩ := hB
  rw [ht] at hP1
  obtain ⟨hP', hD'⟩ := zjoin hP hD hk1 hFc hP1 hD1
  exact kk v u' H1 locs1 hp ⟨hK, hP', hD', hS1⟩
/-- a static method over ints alone -/
abbrev zCs (l : Launch) (y : MethodName) (b : ByteArray) (L : Nat) (rm : Room) (D : va_G) (As : List Value) (post : Int32 → Prop) : Prop :=
  zCi l y b L .int rm D (fun _ : Unit => []) [] As () (fun v _ => post v)
theorem zcall_s {post : Int32 → Prop} (S : CallFix p m c cc nL s args lw_all own) (hA : ∀ q, H0.size ≤ q → A0 q) (w : zW D tys A0 H0 s ws H locs) (hM : zCs l y b L rm D As post) (cw : CallB R s args own index y b L (some .int) (ws_ y b L (some .int)) rm 0 0 n ∧ (Cond.static y).before args s = true)
    (hn : As.length = n) (hls : ls.size = nL) (hst : st0 = As.reverse ++ rest) (hroom : (rest.map fun v => v.category).sum ≤ 8) (hcs : cells ≤ R.cells ∧ slots ≤ R.slots) (d : decode cc pc = .ok (.invokestatic index, 3))
    (kk : ∀ (v : Int32) (H1 : Heap) (locs1 : List Loc), post v → zW D tys A0 H0 s ws H1 locs1 → W p l e R s m args below meth c H1 locs1 cells slots Q (F0 m (pc + 3) ls (.int v :: rest))) : W p l e R s m args below meth c H locs cells slots Q (F0 m pc ls st0) := by
  obtain ⟨hK, hP, hD, hS⟩ := w
  have hD2 : va_D A0 ([] ++ ws) := hD
  have hP2 : va_P D vwCl ([] ++ ws) H := hP
  have hK2 : va_K D vwCl ([] ++ tys) s := hK
  have hFc := zfree hA hD2 hS
  refine va_calli (va_runS (As := As) (rest := rest) S (hM H.size) cw ⟨fun a U g mk q => by obtain ⟨q0, q1, qP, qK, qD⟩ := q; exact ⟨q0, q1, qP, va_K.moved (u := U) (U := U.calling g mk a) (Vm.Alike.refl U.vm) qK, qD⟩, fun U hU hW => ⟨rfl, by rw [hU], by rw [hU]; exact zP_left hP2, va_K.moved hW.alike (zK_left hK2), (zD_left hD2).weaken (fun _ _ _ _ => trivial)⟩⟩ rfl hn hls hst (lv_room hroom) d hcs) hS (fun q _ h => hFc q h) hFc (fun v u' t H1 locs1 ht hvm hp hB hz1 hk1 hS1 => ?_)
  obtain ⟨hP1, hK1, hD1⟩ := hB
  rw [ht] at hP1
  obtain ⟨hP', hD'⟩ := zjoin hP2 hD2 hk1 hFc hP1 hD1
  exact kk v H1 locs1 hp ⟨hK, hP', hD', hS1⟩
end ZC
end
section
/-! rows over natural numbers: an int on the stack is nI n, or zm_e v where v = 8 is none -/
def zm_e (v : Nat) : Int32 := if v = 8 then -1 else nI v
theorem zm_e8 : zm_e 8 = -1 := rfl
theorem zm_en {v : Nat} (h : v ≠ 8) : zm_e v = nI v := if_neg h
set_option maxRecDepth 100000 in
theorem zm_inj0 : ∀ u, u < 9 → ∀ v, v < 9 → zm_e u = zm_e v → u = v := by decide +kernel
theorem zm_inj {u v : Nat} (hu : u ≤ 8) (hv : v ≤ 8) : zm_e u = zm_e v ↔ u = v := ⟨zm_inj0 u (by omega) v (by omega), fun h => by rw [h]⟩
def zm_ar (n : Nat) (f : Nat → Nat) (F : Nat → Int32) : Prop := ∀ i, i < n → F i = zm_e (f i) ∧ f i ≤ 8
theorem zm_ar_upd {n : Nat} {f : Nat → Nat} {F : Nat → Int32} {j v : Nat} {x : Int32} (h : zm_ar n f F) (hv : v ≤ 8) (hx : x = zm_e v) : zm_ar n (zp_u f j v) (upd F j x) := by
  intro i hi
  by_cases e : i = j
  · rw [e, zp_us, pk_us]
    exact ⟨hx, hv⟩
  · rw [zp_un e, pk_un e]
    exact h i hi
theorem zm_ar_push {n : Nat} {f : Nat → Nat} {F : Nat → Int32} {v : Nat} {x : Int32} (h : zm_ar n f F) (hv : v ≤ 8) (hx : x = zm_e v) : zm_ar (n + 1) (zp_u f n v) (upd F n x) := by
  intro i hi
  by_cases e : i = n
  · rw [e, zp_us, pk_us]
    exact ⟨hx, hv⟩
  · rw [zp_un e, pk_un e]
    exact h i (by omega)
theorem zm_and (a b : Nat) : nI a &&& nI b = nI (a &&& b) := by
  apply Int32.toBitVec_inj.1
  show BitVec.ofNat 32 a &&& BitVec.ofNat 32 b = BitVec.ofNat 32 (a &&& b)
  apply BitVec.eq_of_getLsbD_eq
  intro i hi
  simp [hi]
theorem zm_xor (a b : Nat) : nI a ^^^ nI b = nI (a ^^^ b) := by
  apply Int32.toBitVec_inj.1
  show BitVec.ofNat 32 a ^^^ BitVec.ofNat 32 b = BitVec.ofNat 32 (a ^^^ b)
  apply BitVec.eq_of_getLsbD_eq
  intro i hi
  simp [hi]
theorem zm_or (a b : Nat) : nI a ||| nI b = nI (a ||| b) := by
  apply Int32.toBitVec_inj.1
  show BitVec.ofNat 32 a ||| BitVec.ofNat 32 b = BitVec.ofNat 32 (a ||| b)
  apply BitVec.eq_of_getLsbD_eq
  intro i hi
  simp [hi]
set_option maxRecDepth 100000 in
theorem zm_shl0 : ∀ b, b < 9 → nI 1 <<< (nI b &&& 31) = nI (2 ^ b) := by decide +kernel
set_option maxRecDepth 100000 in
theorem zm_bit0 : ∀ a, a < 256 → ∀ b, b < 8 → (nI a >>> (nI b &&& 31)) &&& nI 1 = nI (a.testBit b).toNat := by decide +kernel
set_option maxRecDepth 100000 in
theorem zm_clr0 : ∀ a, a < 256 → ∀ b, b < 8 → nI a &&& (nI (2 ^ b) ^^^ (-1)) = nI (zp_clr a b) := by decide +kernel
theorem zm_inc (i : Nat) : nI i + Int32.ofInt 1 = nI (i + 1) := nI_1 i
theorem zm_inc3 (i : Nat) : nI i + Int32.ofInt 3 = nI (i + 3) := nI_add i 3
theorem zm_dec (i : Nat) : nI (i + 1) + Int32.ofInt (-1) = nI i := pk_m1 i
theorem zm_b0 {x : Bool} : nI x.toNat = 0 ↔ x = false := by cases x <;> decide
theorem zm_b1 {x : Bool} : nI x.toNat = nI 1 ↔ x = true := by cases x <;> decide
theorem zm_0 {n : Nat} (h : n < 2 ^ 31) : nI n = 0 ↔ n = 0 := nI_eq (b := 0) h (by decide)
section ZM
variable {p : Program} {l : Launch} {e : Env} {R : Room} {s : State} {m : MethodId} {args : Array Value} {below : List Frame} {meth : Method} {c : Code} {H : Heap} {locs : List Loc} {cells slots : Nat} {Q : State → Prop}
variable {cc : ByteArray} {pc : Nat} {ls : Array Slot} {rest : List Value} {nL : Nat} {own : String} {D : va_G} {tys : List (ClassId × FieldType)} {A : Nat → Prop} {H0 : Heap} {ws : va_W}

theorem zm_top {x y : Int32} (h : x = y) (k : W p l e R s m args below meth c H locs cells slots Q (F0 m pc ls (.int y :: rest))) : W p l e R s m args below meth c H locs cells slots Q (F0 m pc ls (.int x :: rest)) := by
  rw [h]
  exact k
theorem zm_topl {x y : Int64} (h : x = y) (k : W p l e R s m args below meth c H locs cells slots Q (F0 m pc ls (.long y :: rest))) : W p l e R s m args below meth c H locs cells slots Q (F0 m pc ls (.long x :: rest)) := by
  rw [h]
  exact k
theorem zm_iadd (S : CallFix p m c cc nL s args lw_all own) {x y : Nat} (d : decode cc pc = .ok (.iadd, 1)) (k : W p l e R s m args below meth c H locs cells slots Q (F0 m (pc + 1) ls (.int (nI (x + y)) :: rest))) : W p l e R s m args below meth c H locs cells slots Q (F0 m pc ls (.int (nI y) :: .int (nI x) :: rest)) := lv_iadd S.1 S.2.1 d (zm_top (nI_add x y) k)
theorem zm_isub (S : CallFix p m c cc nL s args lw_all own) {x y : Nat} (h : y ≤ x) (d : decode cc pc = .ok (.isub, 1)) (k : W p l e R s m args below meth c H locs cells slots Q (F0 m (pc + 1) ls (.int (nI (x - y)) :: rest))) : W p l e R s m args below meth c H locs cells slots Q (F0 m pc ls (.int (nI y) :: .int (nI x) :: rest)) := lv_isub S.1 S.2.1 d (zm_top (pk_sub h) k)
theorem zm_iand (S : CallFix p m c cc nL s args lw_all own) {x y : Nat} (d : decode cc pc = .ok (.iand, 1)) (k : W p l e R s m args below meth c H locs cells slots Q (F0 m (pc + 1) ls (.int (nI (x &&& y)) :: rest))) : W p l e R s m args below meth c H locs cells slots Q (F0 m pc ls (.int (nI y) :: .int (nI x) :: rest)) := lv_iand S.1 S.2.1 d (zm_top (zm_and x y) k)
theorem zm_ior (S : CallFix p m c cc nL s args lw_all own) {x y : Nat} (d : decode cc pc = .ok (.ior, 1)) (k : W p l e R s m args below meth c H locs cells slots Q (F0 m (pc + 1) ls (.int (nI (x ||| y)) :: rest))) : W p l e R s m args below meth c H locs cells slots Q (F0 m pc ls (.int (nI y) :: .int (nI x) :: rest)) := lv_ior S.1 S.2.1 d (zm_top (zm_or x y) k)
theorem zm_ixor (S : CallFix p m c cc nL s args lw_all own) {x y : Nat} (d : decode cc pc = .ok (.ixor, 1)) (k : W p l e R s m args below meth c H locs cells slots Q (F0 m (pc + 1) ls (.int (nI (x ^^^ y)) :: rest))) : W p l e R s m args below meth c H locs cells slots Q (F0 m pc ls (.int (nI y) :: .int (nI x) :: rest)) := lv_ixor S.1 S.2.1 d (zm_top (zm_xor x y) k)
theorem zm_shl (S : CallFix p m c cc nL s args lw_all own) {b : Nat} (h : b < 9) (d : decode cc pc = .ok (.ishl, 1)) (k : W p l e R s m args below meth c H locs cells slots Q (F0 m (pc + 1) ls (.int (nI (2 ^ b)) :: rest))) : W p l e R s m args below meth c H locs cells slots Q (F0 m pc ls (.int (nI b) :: .int (nI 1) :: rest)) := lv_ishl S.1 S.2.1 d (zm_top (zm_shl0 b h) k)
theorem zm_bit (S : CallFix p m c cc nL s args lw_all own) {x b : Nat} (hx : x < 256) (hb : b < 8) (d1 : decode cc pc = .ok (.ishr, 1)) (d2 : decode cc (pc + 1) = .ok (.iconst 1, 1)) (d3 : decode cc (pc + 2) = .ok (.iand, 1)) (k : W p l e R s m args below meth c H locs cells slots Q (F0 m (pc + 3) ls (.int (nI (x.testBit b).toNat) :: rest))) : W p l e R s m args below meth c H locs cells slots Q (F0 m pc ls (.int (nI b) :: .int (nI x) :: rest)) :=
  lv_ishr S.1 S.2.1 d1 (lv_iconst (v := nI 1) S.1 S.2.1 d2 (by decide) (lv_iand S.1 S.2.1 d3 (zm_top (zm_bit0 x hx b hb) k)))
theorem zm_clr (S : CallFix p m c cc nL s args lw_all own) {x b : Nat} (hx : x < 256) (hb : b < 8) (d1 : decode cc pc = .ok (.iconst (-1), 1)) (d2 : decode cc (pc + 1) = .ok (.ixor, 1)) (d3 : decode cc (pc + 2) = .ok (.iand, 1)) (k : W p l e R s m args below meth c H locs cells slots Q (F0 m (pc + 3) ls (.int (nI (zp_clr x b)) :: rest))) : W p l e R s m args below meth c H locs cells slots Q (F0 m pc ls (.int (nI (2 ^ b)) :: .int (nI x) :: rest)) :=
  lv_iconst (v := -1) S.1 S.2.1 d1 (by decide) (lv_ixor S.1 S.2.1 d2 (lv_iand S.1 S.2.1 d3 (zm_top (zm_clr0 x hx b hb) k)))
theorem zm_ge (S : CallFix p m c cc nL s args lw_all own) {x y : Nat} {off : Int} {tgt : Nat} (hx : x < 2 ^ 31) (hy : y < 2 ^ 31) (d : decode cc pc = .ok (.if_icmp .ge off, 3)) (ht : (pc : Int) + off = (tgt : Int)) (kt : y ≤ x → W p l e R s m args below meth c H locs cells slots Q (F0 m tgt ls rest)) (kf : x < y → W p l e R s m args below meth c H locs cells slots Q (F0 m (pc + 3) ls rest)) : W p l e R s m args below meth c H locs cells slots Q (F0 m pc ls (.int (nI y) :: .int (nI x) :: rest)) := lv_icmp_ge S.1 S.2.1 d ht (fun h => kt ((nI_leI hy hx).mp h)) (fun h => kf (Nat.lt_of_not_le (fun h2 => h ((nI_leI hy hx).mpr h2))))
theorem zm_gt (S : CallFix p m c cc nL s args lw_all own) {x y : Nat} {off : Int} {tgt : Nat} (hx : x < 2 ^ 31) (hy : y < 2 ^ 31) (d : decode cc pc = .ok (.if_icmp .gt off, 3)) (ht : (pc : Int) + off = (tgt : Int)) (kt : y < x → W p l e R s m args below meth c H locs cells slots Q (F0 m tgt ls rest)) (kf : x ≤ y → W p l e R s m args below meth c H locs cells slots Q (F0 m (pc + 3) ls rest)) : W p l e R s m args below meth c H locs cells slots Q (F0 m pc ls (.int (nI y) :: .int (nI x) :: rest)) := lv_icmp_gt S.1 S.2.1 d ht (fun h => kt ((nI_ltI hy hx).mp h)) (fun h => kf (Nat.le_of_not_lt (fun h2 => h ((nI_ltI hy hx).mpr h2))))
theorem zm_le (S : CallFix p m c cc nL s args lw_all own) {x y : Nat} {off : Int} {tgt : Nat} (hx : x < 2 ^ 31) (hy : y < 2 ^ 31) (d : decode cc pc = .ok (.if_icmp .le off, 3)) (ht : (pc : Int) + off = (tgt : Int)) (kt : x ≤ y → W p l e R s m args below meth c H locs cells slots Q (F0 m tgt ls rest)) (kf : y < x → W p l e R s m args below meth c H locs cells slots Q (F0 m (pc + 3) ls rest)) : W p l e R s m args below meth c H locs cells slots Q (F0 m pc ls (.int (nI y) :: .int (nI x) :: rest)) := lv_icmp_le S.1 S.2.1 d ht (fun h => kt ((nI_leI hx hy).mp h)) (fun h => kf (Nat.lt_of_not_le (fun h2 => h ((nI_leI hx hy).mpr h2))))
theorem zm_eq (S : CallFix p m c cc nL s args lw_all own) {x y : Nat} {off : Int} {tgt : Nat} (hx : x < 2 ^ 31) (hy : y < 2 ^ 31) (d : decode cc pc = .ok (.if_icmp .eq off, 3)) (ht : (pc : Int) + off = (tgt : Int)) (kt : x = y → W p l e R s m args below meth c H locs cells slots Q (F0 m tgt ls rest)) (kf : x ≠ y → W p l e R s m args below meth c H locs cells slots Q (F0 m (pc + 3) ls rest)) : W p l e R s m args below meth c H locs cells slots Q (F0 m pc ls (.int (nI y) :: .int (nI x) :: rest)) := lv_icmp_eq S.1 S.2.1 d ht (fun h => kt ((nI_eq hx hy).mp h)) (fun h => kf (fun h2 => h ((nI_eq hx hy).mpr h2)))
theorem zm_ne (S : CallFix p m c cc nL s args lw_all own) {x y : Nat} {off : Int} {tgt : Nat} (hx : x < 2 ^ 31) (hy : y < 2 ^ 31) (d : decode cc pc = .ok (.if_icmp .ne off, 3)) (ht : (pc : Int) + off = (tgt : Int)) (kt : x ≠ y → W p l e R s m args below meth c H locs cells slots Q (F0 m tgt ls rest)) (kf : x = y → W p l e R s m args below meth c H locs cells slots Q (F0 m (pc + 3) ls rest)) : W p l e R s m args below meth c H locs cells slots Q (F0 m pc ls (.int (nI y) :: .int (nI x) :: rest)) := lv_icmp_ne S.1 S.2.1 d ht (fun h => kt (fun h2 => h ((nI_eq hx hy).mpr h2))) (fun h => kf ((nI_eq hx hy).mp h))
theorem zm_eeq (S : CallFix p m c cc nL s args lw_all own) {x y : Nat} {off : Int} {tgt : Nat} (hx : x ≤ 8) (hy : y ≤ 8) (d : decode cc pc = .ok (.if_icmp .eq off, 3)) (ht : (pc : Int) + off = (tgt : Int)) (kt : x = y → W p l e R s m args below meth c H locs cells slots Q (F0 m tgt ls rest)) (kf : x ≠ y → W p l e R s m args below meth c H locs cells slots Q (F0 m (pc + 3) ls rest)) : W p l e R s m args below meth c H locs cells slots Q (F0 m pc ls (.int (zm_e y) :: .int (zm_e x) :: rest)) := lv_icmp_eq S.1 S.2.1 d ht (fun h => kt ((zm_inj hx hy).mp h)) (fun h => kf (fun h2 => h ((zm_inj hx hy).mpr h2)))
theorem zm_ene (S : CallFix p m c cc nL s args lw_all own) {x y : Nat} {off : Int} {tgt : Nat} (hx : x ≤ 8) (hy : y ≤ 8) (d : decode cc pc = .ok (.if_icmp .ne off, 3)) (ht : (pc : Int) + off = (tgt : Int)) (kt : x ≠ y → W p l e R s m args below meth c H locs cells slots Q (F0 m tgt ls rest)) (kf : x = y → W p l e R s m args below meth c H locs cells slots Q (F0 m (pc + 3) ls rest)) : W p l e R s m args below meth c H locs cells slots Q (F0 m pc ls (.int (zm_e y) :: .int (zm_e x) :: rest)) := lv_icmp_ne S.1 S.2.1 d ht (fun h => kt (fun h2 => h ((zm_inj hx hy).mpr h2))) (fun h => kf ((zm_inj hx hy).mp h))
theorem zm_bne (S : CallFix p m c cc nL s args lw_all own) {x : Bool} {off : Int} {tgt : Nat} (d : decode cc pc = .ok (.if_icmp .ne off, 3)) (ht : (pc : Int) + off = (tgt : Int)) (kt : x = false → W p l e R s m args below meth c H locs cells slots Q (F0 m tgt ls rest)) (kf : x = true → W p l e R s m args below meth c H locs cells slots Q (F0 m (pc + 3) ls rest)) : W p l e R s m args below meth c H locs cells slots Q (F0 m pc ls (.int (nI 1) :: .int (nI x.toNat) :: rest)) := lv_icmp_ne S.1 S.2.1 d ht (fun h => kt (by cases x with | false => rfl | true => exact absurd rfl h)) (fun h => kf (zm_b1.mp h))
theorem zm_bif (S : CallFix p m c cc nL s args lw_all own) {x : Bool} {off : Int} {tgt : Nat} (d : decode cc pc = .ok (.ifCond .eq off, 3)) (ht : (pc : Int) + off = (tgt : Int)) (kt : x = false → W p l e R s m args below meth c H locs cells slots Q (F0 m tgt ls rest)) (kf : x = true → W p l e R s m args below meth c H locs cells slots Q (F0 m (pc + 3) ls rest)) : W p l e R s m args below meth c H locs cells slots Q (F0 m pc ls (.int (nI x.toNat) :: rest)) := lv_if_eq S.1 S.2.1 d ht (fun h => kt (zm_b0.mp h)) (fun h => kf (by cases x with | true => rfl | false => exact absurd rfl h))
theorem zm_bin (S : CallFix p m c cc nL s args lw_all own) {x : Bool} {off : Int} {tgt : Nat} (d : decode cc pc = .ok (.ifCond .ne off, 3)) (ht : (pc : Int) + off = (tgt : Int)) (kt : x = true → W p l e R s m args below meth c H locs cells slots Q (F0 m tgt ls rest)) (kf : x = false → W p l e R s m args below meth c H locs cells slots Q (F0 m (pc + 3) ls rest)) : W p l e R s m args below meth c H locs cells slots Q (F0 m pc ls (.int (nI x.toNat) :: rest)) := lv_if_ne S.1 S.2.1 d ht (fun h => kt (by cases x with | true => rfl | false => exact absurd rfl h)) (fun h => kf (zm_b0.mp h))
theorem zm_ifeq (S : CallFix p m c cc nL s args lw_all own) {x : Nat} {off : Int} {tgt : Nat} (hx : x < 2 ^ 31) (d : decode cc pc = .ok (.ifCond .eq off, 3)) (ht : (pc : Int) + off = (tgt : Int)) (kt : x = 0 → W p l e R s m args below meth c H locs cells slots Q (F0 m tgt ls rest)) (kf : x ≠ 0 → W p l e R s m args below meth c H locs cells slots Q (F0 m (pc + 3) ls rest)) : W p l e R s m args below meth c H locs cells slots Q (F0 m pc ls (.int (nI x) :: rest)) := lv_if_eq S.1 S.2.1 d ht (fun h => kt ((zm_0 hx).mp h)) (fun h => kf (fun h2 => h ((zm_0 hx).mpr h2)))
theorem zm_ifne (S : CallFix p m c cc nL s args lw_all own) {x : Nat} {off : Int} {tgt : Nat} (hx : x < 2 ^ 31) (d : decode cc pc = .ok (.ifCond .ne off, 3)) (ht : (pc : Int) + off = (tgt : Int)) (kt : x ≠ 0 → W p l e R s m args below meth c H locs cells slots Q (F0 m tgt ls rest)) (kf : x = 0 → W p l e R s m args below meth c H locs cells slots Q (F0 m (pc + 3) ls rest)) : W p l e R s m args below meth c H locs cells slots Q (F0 m pc ls (.int (nI x) :: rest)) := lv_if_ne S.1 S.2.1 d ht (fun h => kt (fun h2 => h ((zm_0 hx).mpr h2))) (fun h => kf ((zm_0 hx).mp h))
theorem zm_ifle (S : CallFix p m c cc nL s args lw_all own) {x : Nat} {off : Int} {tgt : Nat} (hx : x < 2 ^ 31) (d : decode cc pc = .ok (.ifCond .le off, 3)) (ht : (pc : Int) + off = (tgt : Int)) (kt : x = 0 → W p l e R s m args below meth c H locs cells slots Q (F0 m tgt ls rest)) (kf : 0 < x → W p l e R s m args below meth c H locs cells slots Q (F0 m (pc + 3) ls rest)) : W p l e R s m args below meth c H locs cells slots Q (F0 m pc ls (.int (nI x) :: rest)) := lv_if_le S.1 S.2.1 d ht (fun h => kt (by have := (nI_leI (b := 0) hx (by decide)).mp h; omega)) (fun h => kf (Nat.pos_of_ne_zero (fun h2 => h (by rw [h2]; decide))))
theorem zm_iald (S : CallFix p m c cc nL s args lw_all own) (w : zW D tys A H0 s ws H locs) (q0 t0 : Nat) {cA : ClassId} {n : Nat} {f : Nat → Int32} {a : Nat} (ha : ws[q0]? = some (a, .inl (cA, n, .inl f))) (ht : tys[t0]? = some (cA, .int)) {i : Nat} {v : Int32} (hi : i < n) (hn : n < 2 ^ 31) (hv : f i = v) (d : decode cc pc = .ok (.iaload, 1)) (kk : W p l e R s m args below meth c H locs cells slots Q (F0 m (pc + 1) ls (.int v :: rest))) : W p l e R s m args below meth c H locs cells slots Q (F0 m pc ls (.int (nI i) :: .ref a :: rest)) :=
  va_iald S.1 S.2.1 w.1 w.2.1 q0 t0 ha ht (vp_in_nI hi hn) d (by rw [nI_clamp (by omega), hv]; exact kk)
theorem zm_lald (S : CallFix p m c cc nL s args lw_all own) (w : zW D tys A H0 s ws H locs) (q0 t0 : Nat) {cA : ClassId} {n : Nat} {f : Nat → Int64} {a : Nat} (ha : ws[q0]? = some (a, .inl (cA, n, .inr (.inl f)))) (ht : tys[t0]? = some (cA, .long)) {i : Nat} {v : Int64} (hi : i < n) (hn : n < 2 ^ 31) (hv : f i = v) (d : decode cc pc = .ok (.laload, 1)) (kk : W p l e R s m args below meth c H locs cells slots Q (F0 m (pc + 1) ls (.long v :: rest))) : W p l e R s m args below meth c H locs cells slots Q (F0 m pc ls (.int (nI i) :: .ref a :: rest)) :=
  va_lald S.1 S.2.1 w.1 w.2.1 q0 t0 ha ht (vp_in_nI hi hn) d (by rw [nI_clamp (by omega), hv]; exact kk)
theorem zm_iast (S : CallFix p m c cc nL s args lw_all own) (w : zW D tys A H0 s ws H locs) (q0 t0 : Nat) {cA : ClassId} {n : Nat} {f : Nat → Int32} {a : Nat} (ha : ws[q0]? = some (a, .inl (cA, n, .inl f))) (ht : tys[t0]? = some (cA, .int)) {i : Nat} {x : Int32} (hi : i < n) (hn : n < 2 ^ 31) (d : decode cc pc = .ok (.iastore, 1)) (kk : ∀ (H1 : Heap) (locs1 : List Loc), zW D tys A H0 s (ws.set q0 (a, .inl (cA, n, .inl (upd f i x)))) H1 locs1 → W p l e R s m args below meth c H1 locs1 cells slots Q (F0 m (pc + 1) ls rest)) : W p l e R s m args below meth c H locs cells slots Q (F0 m pc ls (.int x :: .int (nI i) :: .ref a :: rest)) :=
  va_iast S.1 S.2.1 w.1 w.2.1 w.2.2.1 w.2.2.2 q0 t0 ha ht (vp_in_nI hi hn) d (fun H1 locs1 hP hD hS => kk H1 locs1 (by rw [nI_clamp (by omega)] at hP hD; exact ⟨w.1, hP, hD, hS⟩))
theorem zm_last (S : CallFix p m c cc nL s args lw_all own) (w : zW D tys A H0 s ws H locs) (q0 t0 : Nat) {cA : ClassId} {n : Nat} {f : Nat → Int64} {a : Nat} (ha : ws[q0]? = some (a, .inl (cA, n, .inr (.inl f)))) (ht : tys[t0]? = some (cA, .long)) {i : Nat} {x : Int64} (hi : i < n) (hn : n < 2 ^ 31) (d : decode cc pc = .ok (.lastore, 1)) (kk : ∀ (H1 : Heap) (locs1 : List Loc), zW D tys A H0 s (ws.set q0 (a, .inl (cA, n, .inr (.inl (vp_updL f i x))))) H1 locs1 → W p l e R s m args below meth c H1 locs1 cells slots Q (F0 m (pc + 1) ls rest)) : W p l e R s m args below meth c H locs cells slots Q (F0 m pc ls (.long x :: .int (nI i) :: .ref a :: rest)) :=
  va_last S.1 S.2.1 w.1 w.2.1 w.2.2.1 w.2.2.2 q0 t0 ha ht (vp_in_nI hi hn) d (fun H1 locs1 hP hD hS => kk H1 locs1 (by rw [nI_clamp (by omega)] at hP hD; exact ⟨w.1, hP, hD, hS⟩))
end ZM
end
section
/-! class 0: its cells -/
abbrev zw_0 (a : Nat → Nat) (ca : Nat → ClassId) (lf : Int32) (rt : Int32) (my : Nat → Int32) (mt : Nat → Int32) (fr : Nat → Int32) (ln : Nat → Int32) (wy : Nat → Int64) : va_W := [(a 0, .inr (0, [.int lf, .int rt, .ref (a 1), .ref (a 2), .ref (a 3), .ref (a 4), .ref (a 5)])), (a 1, .inl (ca 1, 8, .inl my)), (a 2, .inl (ca 2, 8, .inl mt)), (a 3, .inl (ca 3, 8, .inl fr)), (a 4, .inl (ca 4, 9, .inl ln)), (a 5, .inl (ca 5, 256, .inr (.inl wy)))]
abbrev zt_0 (ca : Nat → ClassId) : List (ClassId × FieldType) := [(ca 1, .int), (ca 2, .int), (ca 3, .int), (ca 4, .int), (ca 5, .long)]
abbrev zU_0 : Type := Int32 × Int32 × (Nat → Int32) × (Nat → Int32) × (Nat → Int32) × (Nat → Int32) × (Nat → Int64)
abbrev zf_0 (a : Nat → Nat) (ca : Nat → ClassId) : zU_0 → va_W := fun u => zw_0 a ca u.1 u.2.1 u.2.2.1 u.2.2.2.1 u.2.2.2.2.1 u.2.2.2.2.2.1 u.2.2.2.2.2.2
section ZX0
variable {p : Program} {l : Launch} {e : Env} {R : Room} {s : State} {m : MethodId} {args : Array Value} {below : List Frame} {meth : Method} {c : Code} {H : Heap} {locs : List Loc} {cells slots : Nat} {Q : State → Prop}
variable {cc : ByteArray} {pc : Nat} {ls : Array Slot} {rest : List Value} {nL : Nat} {own : String} {D : va_G} {tys : List (ClassId × FieldType)} {A : Nat → Prop} {H0 : Heap} {ws : va_W}
variable {a : Nat → Nat} {ca : Nat → ClassId} {lf : Int32} {rt : Int32} {my : Nat → Int32} {mt : Nat → Int32} {fr : Nat → Int32} {ln : Nat → Int32} {wy : Nat → Int64}
theorem g0_lf (S : CallFix p m c cc nL s args lw_all RX0) (w : zW D (zt_0 ca) A H0 s (zw_0 a ca lf rt my mt fr ln wy) H locs) (d : decode cc pc = .ok (.getfield 7, 3)) (k : W p l e R s m args below meth c H locs cells slots Q (F0 m (pc + 3) ls (.int lf :: rest))) : W p l e R s m args below meth c H locs cells slots Q (F0 m pc ls (.ref (a 0) :: rest)) :=
  va_get (D := D) (ci := 0) (v := .int lf) (C := RX0) (T := TX0) (N := 7) S.1 S.2.1 S.2.2.2.2 in_X0 S.2.2.2.1 w.1 w.2.1 0 rfl rfl 0 (by decide) (S.2.2.2.2 _ q14) (fun _ h9 => h9) rfl d k
theorem p0_lf (S : CallFix p m c cc nL s args lw_all RX0) (w : zW D (zt_0 ca) A H0 s (zw_0 a ca lf rt my mt fr ln wy) H locs) {x : Int32} (d : decode cc pc = .ok (.putfield 7, 3)) (k : ∀ (H1 : Heap) (locs1 : List Loc), zW D (zt_0 ca) A H0 s (zw_0 a ca x rt my mt fr ln wy) H1 locs1 → W p l e R s m args below meth c H1 locs1 cells slots Q (F0 m (pc + 3) ls rest)) : W p l e R s m args below meth c H locs cells slots Q (F0 m pc ls (.int x :: .ref (a 0) :: rest)) :=
  va_put (D := D) (ci := 0) (v := .int x) (ty := .int) (C := RX0) (T := TX0) (N := 7) S.1 S.2.1 S.2.2.2.2 in_X0 tyX0 tyX0_ok nmX0 S.2.2.2.1 w.1 w.2.1 w.2.2.1 w.2.2.2 0 rfl rfl 0 (by decide) (S.2.2.2.2 _ q14) (fun _ h9 => h9) rfl (by decide +kernel) rfl rfl (Nat.le_of_ble_eq_true rfl) d (fun H1 locs1 hP hD hS => k H1 locs1 ⟨w.1, hP, hD, hS⟩)
theorem g0_rt (S : CallFix p m c cc nL s args lw_all RX0) (w : zW D (zt_0 ca) A H0 s (zw_0 a ca lf rt my mt fr ln wy) H locs) (d : decode cc pc = .ok (.getfield 13, 3)) (k : W p l e R s m args below meth c H locs cells slots Q (F0 m (pc + 3) ls (.int rt :: rest))) : W p l e R s m args below meth c H locs cells slots Q (F0 m pc ls (.ref (a 0) :: rest)) :=
  va_get (D := D) (ci := 0) (v := .int rt) (C := RX0) (T := TX0) (N := 7) S.1 S.2.1 S.2.2.2.2 in_X0 S.2.2.2.1 w.1 w.2.1 0 rfl rfl 1 (by decide) (S.2.2.2.2 _ q15) (fun _ h9 => h9) rfl d k
theorem p0_rt (S : CallFix p m c cc nL s args lw_all RX0) (w : zW D (zt_0 ca) A H0 s (zw_0 a ca lf rt my mt fr ln wy) H locs) {x : Int32} (d : decode cc pc = .ok (.putfield 13, 3)) (k : ∀ (H1 : Heap) (locs1 : List Loc), zW D (zt_0 ca) A H0 s (zw_0 a ca lf x my mt fr ln wy) H1 locs1 → W p l e R s m args below meth c H1 locs1 cells slots Q (F0 m (pc + 3) ls rest)) : W p l e R s m args below meth c H locs cells slots Q (F0 m pc ls (.int x :: .ref (a 0) :: rest)) :=
  va_put (D := D) (ci := 0) (v := .int x) (ty := .int) (C := RX0) (T := TX0) (N := 7) S.1 S.2.1 S.2.2.2.2 in_X0 tyX0 tyX0_ok nmX0 S.2.2.2.1 w.1 w.2.1 w.2.2.1 w.2.2.2 0 rfl rfl 1 (by decide) (S.2.2.2.2 _ q15) (fun _ h9 => h9) rfl (by decide +kernel) rfl rfl (Nat.le_of_ble_eq_true rfl) d (fun H1 locs1 hP hD hS => k H1 locs1 ⟨w.1, hP, hD, hS⟩)
theorem g0_my (S : CallFix p m c cc nL s args lw_all RX0) (w : zW D (zt_0 ca) A H0 s (zw_0 a ca lf rt my mt fr ln wy) H locs) (d : decode cc pc = .ok (.getfield 16, 3)) (k : W p l e R s m args below meth c H locs cells slots Q (F0 m (pc + 3) ls (.ref (a 1) :: rest))) : W p l e R s m args below meth c H locs cells slots Q (F0 m pc ls (.ref (a 0) :: rest)) :=
  va_get (D := D) (ci := 0) (v := .ref (a 1)) (C := RX0) (T := TX0) (N := 7) S.1 S.2.1 S.2.2.2.2 in_X0 S.2.2.2.1 w.1 w.2.1 0 rfl rfl 2 (by decide) (S.2.2.2.2 _ q16) (fun _ h9 => h9) rfl d k
theorem ld0_my (S : CallFix p m c cc nL s args lw_all RX0) (w : zW D (zt_0 ca) A H0 s (zw_0 a ca lf rt my mt fr ln wy) H locs) {i : Nat} {v : Int32} (hi : i < 8) (hv : my i = v) (d : decode cc pc = .ok (.iaload, 1)) (k : W p l e R s m args below meth c H locs cells slots Q (F0 m (pc + 1) ls (.int v :: rest))) : W p l e R s m args below meth c H locs cells slots Q (F0 m pc ls (.int (nI i) :: .ref (a 1) :: rest)) :=
  zm_iald S w 1 0 rfl rfl hi (by decide) hv d k
theorem st0_my (S : CallFix p m c cc nL s args lw_all RX0) (w : zW D (zt_0 ca) A H0 s (zw_0 a ca lf rt my mt fr ln wy) H locs) {i : Nat} {x : Int32} (hi : i < 8) (d : decode cc pc = .ok (.iastore, 1)) (k : ∀ (H1 : Heap) (locs1 : List Loc), zW D (zt_0 ca) A H0 s (zw_0 a ca lf rt (upd my i x) mt fr ln wy) H1 locs1 → W p l e R s m args below meth c H1 locs1 cells slots Q (F0 m (pc + 1) ls rest)) : W p l e R s m args below meth c H locs cells slots Q (F0 m pc ls (.int x :: .int (nI i) :: .ref (a 1) :: rest)) :=
  zm_iast S w 1 0 rfl rfl hi (by decide) d (fun H1 locs1 w2 => k H1 locs1 w2)
theorem g0_mt (S : CallFix p m c cc nL s args lw_all RX0) (w : zW D (zt_0 ca) A H0 s (zw_0 a ca lf rt my mt fr ln wy) H locs) (d : decode cc pc = .ok (.getfield 20, 3)) (k : W p l e R s m args below meth c H locs cells slots Q (F0 m (pc + 3) ls (.ref (a 2) :: rest))) : W p l e R s m args below meth c H locs cells slots Q (F0 m pc ls (.ref (a 0) :: rest)) :=
  va_get (D := D) (ci := 0) (v := .ref (a 2)) (C := RX0) (T := TX0) (N := 7) S.1 S.2.1 S.2.2.2.2 in_X0 S.2.2.2.1 w.1 w.2.1 0 rfl rfl 3 (by decide) (S.2.2.2.2 _ q17) (fun _ h9 => h9) rfl d k
theorem ld0_mt (S : CallFix p m c cc nL s args lw_all RX0) (w : zW D (zt_0 ca) A H0 s (zw_0 a ca lf rt my mt fr ln wy) H locs) {i : Nat} {v : Int32} (hi : i < 8) (hv : mt i = v) (d : decode cc pc = .ok (.iaload, 1)) (k : W p l e R s m args below meth c H locs cells slots Q (F0 m (pc + 1) ls (.int v :: rest))) : W p l e R s m args below meth c H locs cells slots Q (F0 m pc ls (.int (nI i) :: .ref (a 2) :: rest)) :=
  zm_iald S w 2 1 rfl rfl hi (by decide) hv d k
theorem st0_mt (S : CallFix p m c cc nL s args lw_all RX0) (w : zW D (zt_0 ca) A H0 s (zw_0 a ca lf rt my mt fr ln wy) H locs) {i : Nat} {x : Int32} (hi : i < 8) (d : decode cc pc = .ok (.iastore, 1)) (k : ∀ (H1 : Heap) (locs1 : List Loc), zW D (zt_0 ca) A H0 s (zw_0 a ca lf rt my (upd mt i x) fr ln wy) H1 locs1 → W p l e R s m args below meth c H1 locs1 cells slots Q (F0 m (pc + 1) ls rest)) : W p l e R s m args below meth c H locs cells slots Q (F0 m pc ls (.int x :: .int (nI i) :: .ref (a 2) :: rest)) :=
  zm_iast S w 2 1 rfl rfl hi (by decide) d (fun H1 locs1 w2 => k H1 locs1 w2)
theorem g0_fr (S : CallFix p m c cc nL s args lw_all RX0) (w : zW D (zt_0 ca) A H0 s (zw_0 a ca lf rt my mt fr ln wy) H locs) (d : decode cc pc = .ok (.getfield 23, 3)) (k : W p l e R s m args below meth c H locs cells slots Q (F0 m (pc + 3) ls (.ref (a 3) :: rest))) : W p l e R s m args below meth c H locs cells slots Q (F0 m pc ls (.ref (a 0) :: rest)) :=
  va_get (D := D) (ci := 0) (v := .ref (a 3)) (C := RX0) (T := TX0) (N := 7) S.1 S.2.1 S.2.2.2.2 in_X0 S.2.2.2.1 w.1 w.2.1 0 rfl rfl 4 (by decide) (S.2.2.2.2 _ q18) (fun _ h9 => h9) rfl d k
theorem ld0_fr (S : CallFix p m c cc nL s args lw_all RX0) (w : zW D (zt_0 ca) A H0 s (zw_0 a ca lf rt my mt fr ln wy) H locs) {i : Nat} {v : Int32} (hi : i < 8) (hv : fr i = v) (d : decode cc pc = .ok (.iaload, 1)) (k : W p l e R s m args below meth c H locs cells slots Q (F0 m (pc + 1) ls (.int v :: rest))) : W p l e R s m args below meth c H locs cells slots Q (F0 m pc ls (.int (nI i) :: .ref (a 3) :: rest)) :=
  zm_iald S w 3 2 rfl rfl hi (by decide) hv d k
theorem st0_fr (S : CallFix p m c cc nL s args lw_all RX0) (w : zW D (zt_0 ca) A H0 s (zw_0 a ca lf rt my mt fr ln wy) H locs) {i : Nat} {x : Int32} (hi : i < 8) (d : decode cc pc = .ok (.iastore, 1)) (k : ∀ (H1 : Heap) (locs1 : List Loc), zW D (zt_0 ca) A H0 s (zw_0 a ca lf rt my mt (upd fr i x) ln wy) H1 locs1 → W p l e R s m args below meth c H1 locs1 cells slots Q (F0 m (pc + 1) ls rest)) : W p l e R s m args below meth c H locs cells slots Q (F0 m pc ls (.int x :: .int (nI i) :: .ref (a 3) :: rest)) :=
  zm_iast S w 3 2 rfl rfl hi (by decide) d (fun H1 locs1 w2 => k H1 locs1 w2)
theorem g0_ln (S : CallFix p m c cc nL s args lw_all RX0) (w : zW D (zt_0 ca) A H0 s (zw_0 a ca lf rt my mt fr ln wy) H locs) (d : decode cc pc = .ok (.getfield 26, 3)) (k : W p l e R s m args below meth c H locs cells slots Q (F0 m (pc + 3) ls (.ref (a 4) :: rest))) : W p l e R s m args below meth c H locs cells slots Q (F0 m pc ls (.ref (a 0) :: rest)) :=
  va_get (D := D) (ci := 0) (v := .ref (a 4)) (C := RX0) (T := TX0) (N := 7) S.1 S.2.1 S.2.2.2.2 in_X0 S.2.2.2.1 w.1 w.2.1 0 rfl rfl 5 (by decide) (S.2.2.2.2 _ q19) (fun _ h9 => h9) rfl d k
theorem ld0_ln (S : CallFix p m c cc nL s args lw_all RX0) (w : zW D (zt_0 ca) A H0 s (zw_0 a ca lf rt my mt fr ln wy) H locs) {i : Nat} {v : Int32} (hi : i < 9) (hv : ln i = v) (d : decode cc pc = .ok (.iaload, 1)) (k : W p l e R s m args below meth c H locs cells slots Q (F0 m (pc + 1) ls (.int v :: rest))) : W p l e R s m args below meth c H locs cells slots Q (F0 m pc ls (.int (nI i) :: .ref (a 4) :: rest)) :=
  zm_iald S w 4 3 rfl rfl hi (by decide) hv d k
theorem st0_ln (S : CallFix p m c cc nL s args lw_all RX0) (w : zW D (zt_0 ca) A H0 s (zw_0 a ca lf rt my mt fr ln wy) H locs) {i : Nat} {x : Int32} (hi : i < 9) (d : decode cc pc = .ok (.iastore, 1)) (k : ∀ (H1 : Heap) (locs1 : List Loc), zW D (zt_0 ca) A H0 s (zw_0 a ca lf rt my mt fr (upd ln i x) wy) H1 locs1 → W p l e R s m args below meth c H1 locs1 cells slots Q (F0 m (pc + 1) ls rest)) : W p l e R s m args below meth c H locs cells slots Q (F0 m pc ls (.int x :: .int (nI i) :: .ref (a 4) :: rest)) :=
  zm_iast S w 4 3 rfl rfl hi (by decide) d (fun H1 locs1 w2 => k H1 locs1 w2)
theorem g0_wy (S : CallFix p m c cc nL s args lw_all RX0) (w : zW D (zt_0 ca) A H0 s (zw_0 a ca lf rt my mt fr ln wy) H locs) (d : decode cc pc = .ok (.getfield 29, 3)) (k : W p l e R s m args below meth c H locs cells slots Q (F0 m (pc + 3) ls (.ref (a 5) :: rest))) : W p l e R s m args below meth c H locs cells slots Q (F0 m pc ls (.ref (a 0) :: rest)) :=
  va_get (D := D) (ci := 0) (v := .ref (a 5)) (C := RX0) (T := TX0) (N := 7) S.1 S.2.1 S.2.2.2.2 in_X0 S.2.2.2.1 w.1 w.2.1 0 rfl rfl 6 (by decide) (S.2.2.2.2 _ q20) (fun _ h9 => h9) rfl d k
theorem ld0_wy (S : CallFix p m c cc nL s args lw_all RX0) (w : zW D (zt_0 ca) A H0 s (zw_0 a ca lf rt my mt fr ln wy) H locs) {i : Nat} {v : Int64} (hi : i < 256) (hv : wy i = v) (d : decode cc pc = .ok (.laload, 1)) (k : W p l e R s m args below meth c H locs cells slots Q (F0 m (pc + 1) ls (.long v :: rest))) : W p l e R s m args below meth c H locs cells slots Q (F0 m pc ls (.int (nI i) :: .ref (a 5) :: rest)) :=
  zm_lald S w 5 4 rfl rfl hi (by decide) hv d k
theorem st0_wy (S : CallFix p m c cc nL s args lw_all RX0) (w : zW D (zt_0 ca) A H0 s (zw_0 a ca lf rt my mt fr ln wy) H locs) {i : Nat} {x : Int64} (hi : i < 256) (d : decode cc pc = .ok (.lastore, 1)) (k : ∀ (H1 : Heap) (locs1 : List Loc), zW D (zt_0 ca) A H0 s (zw_0 a ca lf rt my mt fr ln (vp_updL wy i x)) H1 locs1 → W p l e R s m args below meth c H1 locs1 cells slots Q (F0 m (pc + 1) ls rest)) : W p l e R s m args below meth c H locs cells slots Q (F0 m pc ls (.long x :: .int (nI i) :: .ref (a 5) :: rest)) :=
  zm_last S w 5 4 rfl rfl hi (by decide) d (fun H1 locs1 w2 => k H1 locs1 w2)
end ZX0
/-! class 1: its cells -/
abbrev zw_1 (a : Nat → Nat) (ca : Nat → ClassId) (ok : Nat → Int32) (nn : Int32) (mm : Int32) (bs : Nat → Int32) (kn : Int32) (pr : Int32) (wt : Int32) (lk : Int32) (wy : Nat → Int64) : va_W := [(a 0, .inr (1, [.ref (a 1), .int nn, .int mm, .ref (a 2), .int kn, .int pr, .int wt, .int lk, .ref (a 3)])), (a 1, .inl (ca 1, 8, .inl ok)), (a 2, .inl (ca 2, 256, .inl bs)), (a 3, .inl (ca 3, 256, .inr (.inl wy)))]
abbrev zt_1 (ca : Nat → ClassId) : List (ClassId × FieldType) := [(ca 1, .int), (ca 2, .int), (ca 3, .long)]
abbrev zU_1 : Type := (Nat → Int32) × Int32 × Int32 × (Nat → Int32) × Int32 × Int32 × Int32 × Int32 × (Nat → Int64)
abbrev zf_1 (a : Nat → Nat) (ca : Nat → ClassId) : zU_1 → va_W := fun u => zw_1 a ca u.1 u.2.1 u.2.2.1 u.2.2.2.1 u.2.2.2.2.1 u.2.2.2.2.2.1 u.2.2.2.2.2.2.1 u.2.2.2.2.2.2.2.1 u.2.2.2.2.2.2.2.2
section ZX1
variable {p : Program} {l : Launch} {e : Env} {R : Room} {s : State} {m : MethodId} {args : Array Value} {below : List Frame} {meth : Method} {c : Code} {H : Heap} {locs : List Loc} {cells slots : Nat} {Q : State → Prop}
variable {cc : ByteArray} {pc : Nat} {ls : Array Slot} {rest : List Value} {nL : Nat} {own : String} {D : va_G} {tys : List (ClassId × FieldType)} {A : Nat → Prop} {H0 : Heap} {ws : va_W}
variable {a : Nat → Nat} {ca : Nat → ClassId} {ok : Nat → Int32} {nn : Int32} {mm : Int32} {bs : Nat → Int32} {kn : Int32} {pr : Int32} {wt : Int32} {lk : Int32} {wy : Nat → Int64}
theorem g1_ok (S : CallFix p m c cc nL s args lw_all RX1) (w : zW D (zt_1 ca) A H0 s (zw_1 a ca ok nn mm bs kn pr wt lk wy) H locs) (d : decode cc pc = .ok (.getfield 7, 3)) (k : W p l e R s m args below meth c H locs cells slots Q (F0 m (pc + 3) ls (.ref (a 1) :: rest))) : W p l e R s m args below meth c H locs cells slots Q (F0 m pc ls (.ref (a 0) :: rest)) :=
  va_get (D := D) (ci := 1) (v := .ref (a 1)) (C := RX1) (T := TX1) (N := 9) S.1 S.2.1 S.2.2.2.2 in_X1 S.2.2.2.1 w.1 w.2.1 0 rfl rfl 0 (by decide) (S.2.2.2.2 _ q85) (fun _ h9 => h9) rfl d k
theorem ld1_ok (S : CallFix p m c cc nL s args lw_all RX1) (w : zW D (zt_1 ca) A H0 s (zw_1 a ca ok nn mm bs kn pr wt lk wy) H locs) {i : Nat} {v : Int32} (hi : i < 8) (hv : ok i = v) (d : decode cc pc = .ok (.iaload, 1)) (k : W p l e R s m args below meth c H locs cells slots Q (F0 m (pc + 1) ls (.int v :: rest))) : W p l e R s m args below meth c H locs cells slots Q (F0 m pc ls (.int (nI i) :: .ref (a 1) :: rest)) :=
  zm_iald S w 1 0 rfl rfl hi (by decide) hv d k
theorem st1_ok (S : CallFix p m c cc nL s args lw_all RX1) (w : zW D (zt_1 ca) A H0 s (zw_1 a ca ok nn mm bs kn pr wt lk wy) H locs) {i : Nat} {x : Int32} (hi : i < 8) (d : decode cc pc = .ok (.iastore, 1)) (k : ∀ (H1 : Heap) (locs1 : List Loc), zW D (zt_1 ca) A H0 s (zw_1 a ca (upd ok i x) nn mm bs kn pr wt lk wy) H1 locs1 → W p l e R s m args below meth c H1 locs1 cells slots Q (F0 m (pc + 1) ls rest)) : W p l e R s m args below meth c H locs cells slots Q (F0 m pc ls (.int x :: .int (nI i) :: .ref (a 1) :: rest)) :=
  zm_iast S w 1 0 rfl rfl hi (by decide) d (fun H1 locs1 w2 => k H1 locs1 w2)
theorem g1_nn (S : CallFix p m c cc nL s args lw_all RX1) (w : zW D (zt_1 ca) A H0 s (zw_1 a ca ok nn mm bs kn pr wt lk wy) H locs) (d : decode cc pc = .ok (.getfield 13, 3)) (k : W p l e R s m args below meth c H locs cells slots Q (F0 m (pc + 3) ls (.int nn :: rest))) : W p l e R s m args below meth c H locs cells slots Q (F0 m pc ls (.ref (a 0) :: rest)) :=
  va_get (D := D) (ci := 1) (v := .int nn) (C := RX1) (T := TX1) (N := 9) S.1 S.2.1 S.2.2.2.2 in_X1 S.2.2.2.1 w.1 w.2.1 0 rfl rfl 1 (by decide) (S.2.2.2.2 _ q86) (fun _ h9 => h9) rfl d k
theorem p1_nn (S : CallFix p m c cc nL s args lw_all RX1) (w : zW D (zt_1 ca) A H0 s (zw_1 a ca ok nn mm bs kn pr wt lk wy) H locs) {x : Int32} (d : decode cc pc = .ok (.putfield 13, 3)) (k : ∀ (H1 : Heap) (locs1 : List Loc), zW D (zt_1 ca) A H0 s (zw_1 a ca ok x mm bs kn pr wt lk wy) H1 locs1 → W p l e R s m args below meth c H1 locs1 cells slots Q (F0 m (pc + 3) ls rest)) : W p l e R s m args below meth c H locs cells slots Q (F0 m pc ls (.int x :: .ref (a 0) :: rest)) :=
  va_put (D := D) (ci := 1) (v := .int x) (ty := .int) (C := RX1) (T := TX1) (N := 9) S.1 S.2.1 S.2.2.2.2 in_X1 tyX1 tyX1_ok nmX1 S.2.2.2.1 w.1 w.2.1 w.2.2.1 w.2.2.2 0 rfl rfl 1 (by decide) (S.2.2.2.2 _ q86) (fun _ h9 => h9) rfl (by decide +kernel) rfl rfl (Nat.le_of_ble_eq_true rfl) d (fun H1 locs1 hP hD hS => k H1 locs1 ⟨w.1, hP, hD, hS⟩)
theorem g1_mm (S : CallFix p m c cc nL s args lw_all RX1) (w : zW D (zt_1 ca) A H0 s (zw_1 a ca ok nn mm bs kn pr wt lk wy) H locs) (d : decode cc pc = .ok (.getfield 17, 3)) (k : W p l e R s m args below meth c H locs cells slots Q (F0 m (pc + 3) ls (.int mm :: rest))) : W p l e R s m args below meth c H locs cells slots Q (F0 m pc ls (.ref (a 0) :: rest)) :=
  va_get (D := D) (ci := 1) (v := .int mm) (C := RX1) (T := TX1) (N := 9) S.1 S.2.1 S.2.2.2.2 in_X1 S.2.2.2.1 w.1 w.2.1 0 rfl rfl 2 (by decide) (S.2.2.2.2 _ q87) (fun _ h9 => h9) rfl d k
theorem p1_mm (S : CallFix p m c cc nL s args lw_all RX1) (w : zW D (zt_1 ca) A H0 s (zw_1 a ca ok nn mm bs kn pr wt lk wy) H locs) {x : Int32} (d : decode cc pc = .ok (.putfield 17, 3)) (k : ∀ (H1 : Heap) (locs1 : List Loc), zW D (zt_1 ca) A H0 s (zw_1 a ca ok nn x bs kn pr wt lk wy) H1 locs1 → W p l e R s m args below meth c H1 locs1 cells slots Q (F0 m (pc + 3) ls rest)) : W p l e R s m args below meth c H locs cells slots Q (F0 m pc ls (.int x :: .ref (a 0) :: rest)) :=
  va_put (D := D) (ci := 1) (v := .int x) (ty := .int) (C := RX1) (T := TX1) (N := 9) S.1 S.2.1 S.2.2.2.2 in_X1 tyX1 tyX1_ok nmX1 S.2.2.2.1 w.1 w.2.1 w.2.2.1 w.2.2.2 0 rfl rfl 2 (by decide) (S.2.2.2.2 _ q87) (fun _ h9 => h9) rfl (by decide +kernel) rfl rfl (Nat.le_of_ble_eq_true rfl) d (fun H1 locs1 hP hD hS => k H1 locs1 ⟨w.1, hP, hD, hS⟩)
theorem g1_bs (S : CallFix p m c cc nL s args lw_all RX1) (w : zW D (zt_1 ca) A H0 s (zw_1 a ca ok nn mm bs kn pr wt lk wy) H locs) (d : decode cc pc = .ok (.getfield 20, 3)) (k : W p l e R s m args below meth c H locs cells slots Q (F0 m (pc + 3) ls (.ref (a 2) :: rest))) : W p l e R s m args below meth c H locs cells slots Q (F0 m pc ls (.ref (a 0) :: rest)) :=
  va_get (D := D) (ci := 1) (v := .ref (a 2)) (C := RX1) (T := TX1) (N := 9) S.1 S.2.1 S.2.2.2.2 in_X1 S.2.2.2.1 w.1 w.2.1 0 rfl rfl 3 (by decide) (S.2.2.2.2 _ q88) (fun _ h9 => h9) rfl d k
theorem ld1_bs (S : CallFix p m c cc nL s args lw_all RX1) (w : zW D (zt_1 ca) A H0 s (zw_1 a ca ok nn mm bs kn pr wt lk wy) H locs) {i : Nat} {v : Int32} (hi : i < 256) (hv : bs i = v) (d : decode cc pc = .ok (.iaload, 1)) (k : W p l e R s m args below meth c H locs cells slots Q (F0 m (pc + 1) ls (.int v :: rest))) : W p l e R s m args below meth c H locs cells slots Q (F0 m pc ls (.int (nI i) :: .ref (a 2) :: rest)) :=
  zm_iald S w 2 1 rfl rfl hi (by decide) hv d k
theorem st1_bs (S : CallFix p m c cc nL s args lw_all RX1) (w : zW D (zt_1 ca) A H0 s (zw_1 a ca ok nn mm bs kn pr wt lk wy) H locs) {i : Nat} {x : Int32} (hi : i < 256) (d : decode cc pc = .ok (.iastore, 1)) (k : ∀ (H1 : Heap) (locs1 : List Loc), zW D (zt_1 ca) A H0 s (zw_1 a ca ok nn mm (upd bs i x) kn pr wt lk wy) H1 locs1 → W p l e R s m args below meth c H1 locs1 cells slots Q (F0 m (pc + 1) ls rest)) : W p l e R s m args below meth c H locs cells slots Q (F0 m pc ls (.int x :: .int (nI i) :: .ref (a 2) :: rest)) :=
  zm_iast S w 2 1 rfl rfl hi (by decide) d (fun H1 locs1 w2 => k H1 locs1 w2)
theorem g1_kn (S : CallFix p m c cc nL s args lw_all RX1) (w : zW D (zt_1 ca) A H0 s (zw_1 a ca ok nn mm bs kn pr wt lk wy) H locs) (d : decode cc pc = .ok (.getfield 27, 3)) (k : W p l e R s m args below meth c H locs cells slots Q (F0 m (pc + 3) ls (.int kn :: rest))) : W p l e R s m args below meth c H locs cells slots Q (F0 m pc ls (.ref (a 0) :: rest)) :=
  va_get (D := D) (ci := 1) (v := .int kn) (C := RX1) (T := TX1) (N := 9) S.1 S.2.1 S.2.2.2.2 in_X1 S.2.2.2.1 w.1 w.2.1 0 rfl rfl 4 (by decide) (S.2.2.2.2 _ q89) (fun _ h9 => h9) rfl d k
theorem p1_kn (S : CallFix p m c cc nL s args lw_all RX1) (w : zW D (zt_1 ca) A H0 s (zw_1 a ca ok nn mm bs kn pr wt lk wy) H locs) {x : Int32} (hn : narrow .boolean (.int x) = .int x) (hf : fits .boolean (.int x) = true) (d : decode cc pc = .ok (.putfield 27, 3)) (k : ∀ (H1 : Heap) (locs1 : List Loc), zW D (zt_1 ca) A H0 s (zw_1 a ca ok nn mm bs x pr wt lk wy) H1 locs1 → W p l e R s m args below meth c H1 locs1 cells slots Q (F0 m (pc + 3) ls rest)) : W p l e R s m args below meth c H locs cells slots Q (F0 m pc ls (.int x :: .ref (a 0) :: rest)) :=
  va_put (D := D) (ci := 1) (v := .int x) (ty := .boolean) (C := RX1) (T := TX1) (N := 9) S.1 S.2.1 S.2.2.2.2 in_X1 tyX1 tyX1_ok nmX1 S.2.2.2.1 w.1 w.2.1 w.2.2.1 w.2.2.2 0 rfl rfl 4 (by decide) (S.2.2.2.2 _ q89) (fun _ h9 => h9) rfl (by decide +kernel) hn hf (Nat.le_of_ble_eq_true rfl) d (fun H1 locs1 hP hD hS => k H1 locs1 ⟨w.1, hP, hD, hS⟩)
theorem g1_pr (S : CallFix p m c cc nL s args lw_all RX1) (w : zW D (zt_1 ca) A H0 s (zw_1 a ca ok nn mm bs kn pr wt lk wy) H locs) (d : decode cc pc = .ok (.getfield 36, 3)) (k : W p l e R s m args below meth c H locs cells slots Q (F0 m (pc + 3) ls (.int pr :: rest))) : W p l e R s m args below meth c H locs cells slots Q (F0 m pc ls (.ref (a 0) :: rest)) :=
  va_get (D := D) (ci := 1) (v := .int pr) (C := RX1) (T := TX1) (N := 9) S.1 S.2.1 S.2.2.2.2 in_X1 S.2.2.2.1 w.1 w.2.1 0 rfl rfl 5 (by decide) (S.2.2.2.2 _ q90) (fun _ h9 => h9) rfl d k
theorem p1_pr (S : CallFix p m c cc nL s args lw_all RX1) (w : zW D (zt_1 ca) A H0 s (zw_1 a ca ok nn mm bs kn pr wt lk wy) H locs) {x : Int32} (d : decode cc pc = .ok (.putfield 36, 3)) (k : ∀ (H1 : Heap) (locs1 : List Loc), zW D (zt_1 ca) A H0 s (zw_1 a ca ok nn mm bs kn x wt lk wy) H1 locs1 → W p l e R s m args below meth c H1 locs1 cells slots Q (F0 m (pc + 3) ls rest)) : W p l e R s m args below meth c H locs cells slots Q (F0 m pc ls (.int x :: .ref (a 0) :: rest)) :=
  va_put (D := D) (ci := 1) (v := .int x) (ty := .int) (C := RX1) (T := TX1) (N := 9) S.1 S.2.1 S.2.2.2.2 in_X1 tyX1 tyX1_ok nmX1 S.2.2.2.1 w.1 w.2.1 w.2.2.1 w.2.2.2 0 rfl rfl 5 (by decide) (S.2.2.2.2 _ q90) (fun _ h9 => h9) rfl (by decide +kernel) rfl rfl (Nat.le_of_ble_eq_true rfl) d (fun H1 locs1 hP hD hS => k H1 locs1 ⟨w.1, hP, hD, hS⟩)
theorem g1_wt (S : CallFix p m c cc nL s args lw_all RX1) (w : zW D (zt_1 ca) A H0 s (zw_1 a ca ok nn mm bs kn pr wt lk wy) H locs) (d : decode cc pc = .ok (.getfield 39, 3)) (k : W p l e R s m args below meth c H locs cells slots Q (F0 m (pc + 3) ls (.int wt :: rest))) : W p l e R s m args below meth c H locs cells slots Q (F0 m pc ls (.ref (a 0) :: rest)) :=
  va_get (D := D) (ci := 1) (v := .int wt) (C := RX1) (T := TX1) (N := 9) S.1 S.2.1 S.2.2.2.2 in_X1 S.2.2.2.1 w.1 w.2.1 0 rfl rfl 6 (by decide) (S.2.2.2.2 _ q91) (fun _ h9 => h9) rfl d k
theorem p1_wt (S : CallFix p m c cc nL s args lw_all RX1) (w : zW D (zt_1 ca) A H0 s (zw_1 a ca ok nn mm bs kn pr wt lk wy) H locs) {x : Int32} (d : decode cc pc = .ok (.putfield 39, 3)) (k : ∀ (H1 : Heap) (locs1 : List Loc), zW D (zt_1 ca) A H0 s (zw_1 a ca ok nn mm bs kn pr x lk wy) H1 locs1 → W p l e R s m args below meth c H1 locs1 cells slots Q (F0 m (pc + 3) ls rest)) : W p l e R s m args below meth c H locs cells slots Q (F0 m pc ls (.int x :: .ref (a 0) :: rest)) :=
  va_put (D := D) (ci := 1) (v := .int x) (ty := .int) (C := RX1) (T := TX1) (N := 9) S.1 S.2.1 S.2.2.2.2 in_X1 tyX1 tyX1_ok nmX1 S.2.2.2.1 w.1 w.2.1 w.2.2.1 w.2.2.2 0 rfl rfl 6 (by decide) (S.2.2.2.2 _ q91) (fun _ h9 => h9) rfl (by decide +kernel) rfl rfl (Nat.le_of_ble_eq_true rfl) d (fun H1 locs1 hP hD hS => k H1 locs1 ⟨w.1, hP, hD, hS⟩)
theorem g1_lk (S : CallFix p m c cc nL s args lw_all RX1) (w : zW D (zt_1 ca) A H0 s (zw_1 a ca ok nn mm bs kn pr wt lk wy) H locs) (d : decode cc pc = .ok (.getfield 42, 3)) (k : W p l e R s m args below meth c H locs cells slots Q (F0 m (pc + 3) ls (.int lk :: rest))) : W p l e R s m args below meth c H locs cells slots Q (F0 m pc ls (.ref (a 0) :: rest)) :=
  va_get (D := D) (ci := 1) (v := .int lk) (C := RX1) (T := TX1) (N := 9) S.1 S.2.1 S.2.2.2.2 in_X1 S.2.2.2.1 w.1 w.2.1 0 rfl rfl 7 (by decide) (S.2.2.2.2 _ q92) (fun _ h9 => h9) rfl d k
theorem p1_lk (S : CallFix p m c cc nL s args lw_all RX1) (w : zW D (zt_1 ca) A H0 s (zw_1 a ca ok nn mm bs kn pr wt lk wy) H locs) {x : Int32} (d : decode cc pc = .ok (.putfield 42, 3)) (k : ∀ (H1 : Heap) (locs1 : List Loc), zW D (zt_1 ca) A H0 s (zw_1 a ca ok nn mm bs kn pr wt x wy) H1 locs1 → W p l e R s m args below meth c H1 locs1 cells slots Q (F0 m (pc + 3) ls rest)) : W p l e R s m args below meth c H locs cells slots Q (F0 m pc ls (.int x :: .ref (a 0) :: rest)) :=
  va_put (D := D) (ci := 1) (v := .int x) (ty := .int) (C := RX1) (T := TX1) (N := 9) S.1 S.2.1 S.2.2.2.2 in_X1 tyX1 tyX1_ok nmX1 S.2.2.2.1 w.1 w.2.1 w.2.2.1 w.2.2.2 0 rfl rfl 7 (by decide) (S.2.2.2.2 _ q92) (fun _ h9 => h9) rfl (by decide +kernel) rfl rfl (Nat.le_of_ble_eq_true rfl) d (fun H1 locs1 hP hD hS => k H1 locs1 ⟨w.1, hP, hD, hS⟩)
theorem g1_wy (S : CallFix p m c cc nL s args lw_all RX1) (w : zW D (zt_1 ca) A H0 s (zw_1 a ca ok nn mm bs kn pr wt lk wy) H locs) (d : decode cc pc = .ok (.getfield 23, 3)) (k : W p l e R s m args below meth c H locs cells slots Q (F0 m (pc + 3) ls (.ref (a 3) :: rest))) : W p l e R s m args below meth c H locs cells slots Q (F0 m pc ls (.ref (a 0) :: rest)) :=
  va_get (D := D) (ci := 1) (v := .ref (a 3)) (C := RX1) (T := TX1) (N := 9) S.1 S.2.1 S.2.2.2.2 in_X1 S.2.2.2.1 w.1 w.2.1 0 rfl rfl 8 (by decide) (S.2.2.2.2 _ q93) (fun _ h9 => h9) rfl d k
theorem ld1_wy (S : CallFix p m c cc nL s args lw_all RX1) (w : zW D (zt_1 ca) A H0 s (zw_1 a ca ok nn mm bs kn pr wt lk wy) H locs) {i : Nat} {v : Int64} (hi : i < 256) (hv : wy i = v) (d : decode cc pc = .ok (.laload, 1)) (k : W p l e R s m args below meth c H locs cells slots Q (F0 m (pc + 1) ls (.long v :: rest))) : W p l e R s m args below meth c H locs cells slots Q (F0 m pc ls (.int (nI i) :: .ref (a 3) :: rest)) :=
  zm_lald S w 3 2 rfl rfl hi (by decide) hv d k
theorem st1_wy (S : CallFix p m c cc nL s args lw_all RX1) (w : zW D (zt_1 ca) A H0 s (zw_1 a ca ok nn mm bs kn pr wt lk wy) H locs) {i : Nat} {x : Int64} (hi : i < 256) (d : decode cc pc = .ok (.lastore, 1)) (k : ∀ (H1 : Heap) (locs1 : List Loc), zW D (zt_1 ca) A H0 s (zw_1 a ca ok nn mm bs kn pr wt lk (vp_updL wy i x)) H1 locs1 → W p l e R s m args below meth c H1 locs1 cells slots Q (F0 m (pc + 1) ls rest)) : W p l e R s m args below meth c H locs cells slots Q (F0 m pc ls (.long x :: .int (nI i) :: .ref (a 3) :: rest)) :=
  zm_last S w 3 2 rfl rfl hi (by decide) d (fun H1 locs1 w2 => k H1 locs1 w2)
end ZX1
end
section
/-! MateDesk: counted, sizes, may, not -/
abbrev zr (f k : Nat) : Room := { frames := f, cells := 0, slots := 0, locals := k }
def zp_cd (v : Int32) (n : Nat) : Nat := v.toBitVec.toNat % 2 ^ 31 % n
def zp_sz (v : Int32) : Nat := 1 + v.toBitVec.toNat % 2 ^ 3
theorem zp_cd_lt {v : Int32} {n : Nat} (h : 0 < n) : zp_cd v n < n := Nat.mod_lt _ h
theorem zp_sz_in {v : Int32} : 0 < zp_sz v ∧ zp_sz v ≤ 8 := by
  unfold zp_sz
  omega
def zm_g (g : Nat → Nat) (F : Nat → Int32) : Prop := ∀ i, i < 8 → F i = nI (g i)
theorem zm_g_upd {g : Nat → Nat} {F : Nat → Int32} {j v : Nat} (h : zm_g g F) : zm_g (zp_u g j v) (upd F j (nI v)) := by
  intro i hi
  by_cases e : i = j
  · rw [e, zp_us, pk_us]
  · rw [zp_un e, pk_un e]
    exact h i hi
set_option maxHeartbeats 4000000 in
set_option maxRecDepth 100000 in
theorem ct_counted0 (l : Launch) (D : va_G) (v : Int32) (n : Nat) (h0 : 0 < n) (hn : n < 2 ^ 31) : zCs l yX0_counted cX0_counted 2 (zr 0 0) D [.int v, .int (nI n)] (fun r => r = nI (zp_cd v n)) := by
  refine zmet_i RX0 (by decide) rfl (Nat.le_of_ble_eq_true rfl) ?_
  intro p e s m args below meth c A Q ls S hA w hl hret
  have hl : lv_has ls 2 [(0, .int v), (1, .int (nI n))] := hl
  refine lv_iload_n S.1 S.2.1 dX0_counted_0 rfl (lv_at hl 0 rfl) ?_
  refine lv_ldc S.1 S.2.1 S.2.2.2.1 (S.2.2.2.2 _ q49) dX0_counted_1 ?_
  refine lv_iand S.1 S.2.1 dX0_counted_3 ?_
  refine zm_top (pk_and v 31 (by decide)) ?_
  refine lv_iload_n S.1 S.2.1 dX0_counted_4 rfl (lv_at hl 1 rfl) ?_
  refine lv_irem S.1 S.2.1 dX0_counted_5 (nI_ne0 h0 hn) ?_
  refine zm_top (pk_rem (Nat.mod_lt _ (by decide)) h0 hn) ?_
  exact hret _ _ _ _ () _ w rfl rfl dX0_counted_6
section X0a
variable {p : Program} {l : Launch} {e : Env} {R : Room} {s : State} {m : MethodId} {args : Array Value} {below : List Frame} {meth : Method} {c : Code} {cells slots : Nat} {Q : State → Prop}
variable {D : va_G} {A : Nat → Prop} {H0 : Heap} {a : Nat → Nat} {ca : Nat → ClassId}
variable {lf rt : Int32} {mt fr ln : Nat → Int32} {wy : Nat → Int64}
set_option maxHeartbeats 4000000 in
set_option maxRecDepth 100000 in
theorem lp0_sizes (S : CallFix p m c cX0_sizes 4 s args lw_all RX0) (kk : ∀ (my : Nat → Int32) (H : Heap) (locs : List Loc) (ls : Array Slot), (∀ j, j < 8 → my j = nI 0) → zW D (zt_0 ca) A H0 s (zw_0 a ca lf rt my mt fr ln wy) H locs → W p l e R s m args below meth c H locs cells slots Q (F0 m 41 ls [])) : ∀ (n i : Nat) (my : Nat → Int32), 9 ≤ i + n → i ≤ 8 → (∀ j, j < i → my j = nI 0) → ∀ (H : Heap) (locs : List Loc) (ls : Array Slot), zW D (zt_0 ca) A H0 s (zw_0 a ca lf rt my mt fr ln wy) H locs → lv_has ls 4 [(0, .ref (a 0)), (3, .int (nI i))] → W p l e R s m args below meth c H locs cells slots Q (F0 m 22 ls []) := by
  intro n
  induction n with
  | zero =>
    intro i my h1 h2
    exact absurd h1 (by omega)
  | succ n ih =>
    intro i my h1 h2 h3 H locs ls w hl
    refine lv_iload_n S.1 S.2.1 dX0_sizes_22 rfl (lv_at hl 1 rfl) ?_
    refine lv_bipush (v := nI 8) S.1 S.2.1 dX0_sizes_23 (by decide) ?_
    refine zm_ge S (tgt := 41) (by omega) (by decide) dX0_sizes_25 (by decide) (fun h => ?_) (fun h => ?_)
    · exact kk my H locs ls (fun j hj => h3 j (by omega)) w
    · refine lv_aload_n S.1 S.2.1 dX0_sizes_28 rfl (lv_at hl 0 rfl) ?_
      refine g0_my S w dX0_sizes_29 ?_
      refine lv_iload_n S.1 S.2.1 dX0_sizes_32 rfl (lv_at hl 1 rfl) ?_
      refine lv_iconst (v := nI 0) S.1 S.2.1 dX0_sizes_33 (by decide) ?_
      refine st0_my S w (by omega) dX0_sizes_34 (fun H locs w => ?_)
      refine lv_iinc (v := nI (i + 1)) (lv' := [(3, .int (nI (i + 1))), (0, .ref (a 0))]) S.1 S.2.1 dX0_sizes_35 hl (k := 1) rfl (zm_inc _) (by decide) rfl (fun ls hl => ?_)
      refine lv_goto (tgt := 22) S.1 S.2.1 dX0_sizes_38 (by decide) ?_
      refine ih (i + 1) (upd my i (nI 0)) (by omega) (by omega) (fun j hj => ?_) H locs ls w (lv_sub hl [1, 0] rfl)
      by_cases e : j = i
      · rw [e, pk_us]
      · rw [pk_un e]
        exact h3 j (by omega)
end X0a
set_option maxHeartbeats 4000000 in
set_option maxRecDepth 100000 in
theorem ct_sizes0 (l : Launch) (D : va_G) (a : Nat → Nat) (ca : Nat → ClassId) (x y lf rt : Int32) (my mt fr ln : Nat → Int32) (wy : Nat → Int64) : zCv l yX0_sizes cX0_sizes 4 (zr 0 0) D (zf_0 a ca) (zt_0 ca) [.ref (a 0), .int x, .int y] (lf, rt, my, mt, fr, ln, wy) (fun u => ∃ my', (∀ j, j < 8 → my' j = nI 0) ∧ u = (nI (zp_sz x), nI (zp_sz y), my', mt, fr, ln, wy)) := by
  refine zmet_v RX0 (by decide) rfl (Nat.le_of_ble_eq_true rfl) ?_
  intro p e s m args below meth c A Q ls S hA w hl hret
  have hl : lv_has ls 4 [(0, .ref (a 0)), (1, .int x), (2, .int y)] := hl
  have w : zW D (zt_0 ca) A s.heap s (zw_0 a ca lf rt my mt fr ln wy) s.heap [] := w
  refine lv_aload_n S.1 S.2.1 dX0_sizes_0 rfl (lv_at hl 0 rfl) ?_
  refine lv_iconst (v := nI 1) S.1 S.2.1 dX0_sizes_1 (by decide) ?_
  refine lv_iload_n S.1 S.2.1 dX0_sizes_2 rfl (lv_at hl 1 rfl) ?_
  refine lv_bipush (v := nI 7) S.1 S.2.1 dX0_sizes_3 (by decide) ?_
  refine lv_iand S.1 S.2.1 dX0_sizes_5 ?_
  refine zm_top (pk_and x 3 (by decide)) ?_
  refine zm_iadd S dX0_sizes_6 ?_
  refine p0_lf S w dX0_sizes_7 (fun H locs w => ?_)
  refine lv_aload_n S.1 S.2.1 dX0_sizes_10 rfl (lv_at hl 0 rfl) ?_
  refine lv_iconst (v := nI 1) S.1 S.2.1 dX0_sizes_11 (by decide) ?_
  refine lv_iload_n S.1 S.2.1 dX0_sizes_12 rfl (lv_at hl 2 rfl) ?_
  refine lv_bipush (v := nI 7) S.1 S.2.1 dX0_sizes_13 (by decide) ?_
  refine lv_iand S.1 S.2.1 dX0_sizes_15 ?_
  refine zm_top (pk_and y 3 (by decide)) ?_
  refine zm_iadd S dX0_sizes_16 ?_
  refine p0_rt S w dX0_sizes_17 (fun H locs w => ?_)
  refine lv_iconst (v := nI 0) S.1 S.2.1 dX0_sizes_20 (by decide) ?_
  refine lv_istore_n (lv' := [(3, .int (nI 0)), (0, .ref (a 0)), (1, .int x), (2, .int y)]) S.1 S.2.1 dX0_sizes_21 rfl hl (by decide) rfl (fun ls hl => ?_)
  exact lp0_sizes S (fun my' H locs ls h w => hret H locs 41 ls (nI (zp_sz x), nI (zp_sz y), my', mt, fr, ln, wy) w ⟨my', h, rfl⟩ dX0_sizes_41) 9 0 my (by omega) (by omega) (fun j hj => absurd hj (by omega)) _ _ ls w (lv_sub hl [1, 0] rfl)
set_option maxHeartbeats 4000000 in
set_option maxRecDepth 100000 in
theorem ct_may0 (l : Launch) (D : va_G) (a : Nat → Nat) (ca : Nat → ClassId) (x y : Int32) (L R : Nat) (g : Nat → Nat) (my mt fr ln : Nat → Int32) (wy : Nat → Int64) (hL : 0 < L ∧ L ≤ 8) (hR : 0 < R ∧ R ≤ 8) (hg : zm_g g my) (hlt : ∀ i, g i < 2 ^ R) : zCv l yX0_may cX0_may 3 (zr 1 21) D (zf_0 a ca) (zt_0 ca) [.ref (a 0), .int x, .int y] (nI L, nI R, my, mt, fr, ln, wy) (fun u => ∃ my', zm_g (zp_u g (zp_cd x L) (g (zp_cd x L) ||| 2 ^ zp_cd y R)) my' ∧ u = (nI L, nI R, my', mt, fr, ln, wy)) := by
  refine zmet_v RX0 (by decide) rfl (Nat.le_of_ble_eq_true rfl) ?_
  intro p e s m args below meth c A Q ls S hA w hl hret
  have hl : lv_has ls 3 [(0, .ref (a 0)), (1, .int x), (2, .int y)] := hl
  have w : zW D (zt_0 ca) A s.heap s (zw_0 a ca (nI L) (nI R) my mt fr ln wy) s.heap [] := w
  have hj : zp_cd x L < L := zp_cd_lt hL.1
  have hb : zp_cd y R < R := zp_cd_lt hR.1
  have hgl : g (zp_cd x L) < 256 := Nat.lt_of_lt_of_le (hlt _) (zp_pow hR.2)
  refine lv_aload_n S.1 S.2.1 dX0_may_0 rfl (lv_at hl 0 rfl) ?_
  refine g0_my S w dX0_may_1 ?_
  refine lv_iload_n S.1 S.2.1 dX0_may_4 rfl (lv_at hl 1 rfl) ?_
  refine lv_aload_n S.1 S.2.1 dX0_may_5 rfl (lv_at hl 0 rfl) ?_
  refine g0_lf S w dX0_may_6 ?_
  refine zcall_s (As := [.int x, .int (nI L)]) (rest := [.ref (a 1)]) S hA w (ct_counted0 l D x L hL.1 (by have := hL.2; omega)) (va_cwS 2 S.2.2.2.2 (lw_S q46 q47 q4 q48) rfl rfl rfl (by decide +kernel) ⟨by decide, by decide⟩) rfl hl.1 rfl (Nat.le_of_ble_eq_true rfl) ⟨Nat.zero_le _, Nat.zero_le _⟩ dX0_may_9 (fun r H locs hr w => ?_)
  subst hr
  refine lv_dup2_11 S.1 S.2.1 dX0_may_12 rfl rfl ?_
  refine ld0_my (v := nI (g (zp_cd x L))) S w (by omega) (hg _ (by omega)) dX0_may_13 ?_
  refine lv_iconst (v := nI 1) S.1 S.2.1 dX0_may_14 (by decide) ?_
  refine lv_iload_n S.1 S.2.1 dX0_may_15 rfl (lv_at hl 2 rfl) ?_
  refine lv_aload_n S.1 S.2.1 dX0_may_16 rfl (lv_at hl 0 rfl) ?_
  refine g0_rt S w dX0_may_17 ?_
  refine zcall_s (As := [.int y, .int (nI R)]) (rest := [.int (nI 1), .int (nI (g (zp_cd x L))), .int (nI (zp_cd x L)), .ref (a 1)]) S hA w (ct_counted0 l D y R hR.1 (by have := hR.2; omega)) (va_cwS 2 S.2.2.2.2 (lw_S q46 q47 q4 q48) rfl rfl rfl (by decide +kernel) ⟨by decide, by decide⟩) rfl hl.1 rfl (Nat.le_of_ble_eq_true rfl) ⟨Nat.zero_le _, Nat.zero_le _⟩ dX0_may_20 (fun r H locs hr w => ?_)
  subst hr
  refine zm_shl S (by omega) dX0_may_23 ?_
  refine zm_ior S dX0_may_24 ?_
  refine st0_my S w (by omega) dX0_may_25 (fun H locs w => ?_)
  exact hret _ _ _ _ (nI L, nI R, _, mt, fr, ln, wy) w ⟨_, zm_g_upd hg, rfl⟩ dX0_may_26
set_option maxHeartbeats 4000000 in
set_option maxRecDepth 100000 in
theorem ct_not0 (l : Launch) (D : va_G) (a : Nat → Nat) (ca : Nat → ClassId) (x y : Int32) (L R : Nat) (g : Nat → Nat) (my mt fr ln : Nat → Int32) (wy : Nat → Int64) (hL : 0 < L ∧ L ≤ 8) (hR : 0 < R ∧ R ≤ 8) (hg : zm_g g my) (hlt : ∀ i, g i < 2 ^ R) : zCv l yX0_not cX0_not 3 (zr 1 21) D (zf_0 a ca) (zt_0 ca) [.ref (a 0), .int x, .int y] (nI L, nI R, my, mt, fr, ln, wy) (fun u => ∃ my', zm_g (zp_u g (zp_cd x L) (zp_clr (g (zp_cd x L)) (zp_cd y R))) my' ∧ u = (nI L, nI R, my', mt, fr, ln, wy)) := by
  refine zmet_v RX0 (by decide) rfl (Nat.le_of_ble_eq_true rfl) ?_
  intro p e s m args below meth c A Q ls S hA w hl hret
  have hl : lv_has ls 3 [(0, .ref (a 0)), (1, .int x), (2, .int y)] := hl
  have w : zW D (zt_0 ca) A s.heap s (zw_0 a ca (nI L) (nI R) my mt fr ln wy) s.heap [] := w
  have hj : zp_cd x L < L := zp_cd_lt hL.1
  have hb : zp_cd y R < R := zp_cd_lt hR.1
  have hgl : g (zp_cd x L) < 256 := Nat.lt_of_lt_of_le (hlt _) (zp_pow hR.2)
  refine lv_aload_n S.1 S.2.1 dX0_not_0 rfl (lv_at hl 0 rfl) ?_
  refine g0_my S w dX0_not_1 ?_
  refine lv_iload_n S.1 S.2.1 dX0_not_4 rfl (lv_at hl 1 rfl) ?_
  refine lv_aload_n S.1 S.2.1 dX0_not_5 rfl (lv_at hl 0 rfl) ?_
  refine g0_lf S w dX0_not_6 ?_
  refine zcall_s (As := [.int x, .int (nI L)]) (rest := [.ref (a 1)]) S hA w (ct_counted0 l D x L hL.1 (by have := hL.2; omega)) (va_cwS 2 S.2.2.2.2 (lw_S q46 q47 q4 q48) rfl rfl rfl (by decide +kernel) ⟨by decide, by decide⟩) rfl hl.1 rfl (Nat.le_of_ble_eq_true rfl) ⟨Nat.zero_le _, Nat.zero_le _⟩ dX0_not_9 (fun r H locs hr w => ?_)
  subst hr
  refine lv_dup2_11 S.1 S.2.1 dX0_not_12 rfl rfl ?_
  refine ld0_my (v := nI (g (zp_cd x L))) S w (by omega) (hg _ (by omega)) dX0_not_13 ?_
  refine lv_iconst (v := nI 1) S.1 S.2.1 dX0_not_14 (by decide) ?_
  refine lv_iload_n S.1 S.2.1 dX0_not_15 rfl (lv_at hl 2 rfl) ?_
  refine lv_aload_n S.1 S.2.1 dX0_not_16 rfl (lv_at hl 0 rfl) ?_
  refine g0_rt S w dX0_not_17 ?_
  refine zcall_s (As := [.int y, .int (nI R)]) (rest := [.int (nI 1), .int (nI (g (zp_cd x L))), .int (nI (zp_cd x L)), .ref (a 1)]) S hA w (ct_counted0 l D y R hR.1 (by have := hR.2; omega)) (va_cwS 2 S.2.2.2.2 (lw_S q46 q47 q4 q48) rfl rfl rfl (by decide +kernel) ⟨by decide, by decide⟩) rfl hl.1 rfl (Nat.le_of_ble_eq_true rfl) ⟨Nat.zero_le _, Nat.zero_le _⟩ dX0_not_20 (fun r H locs hr w => ?_)
  subst hr
  refine zm_shl S (by omega) dX0_not_23 ?_
  refine zm_clr S hgl (by omega) dX0_not_24 dX0_not_25 dX0_not_26 ?_
  refine st0_my S w (by omega) dX0_not_27 (fun H locs w => ?_)
  exact hret _ _ _ _ (nI L, nI R, _, mt, fr, ln, wy) w ⟨_, zm_g_upd hg, rfl⟩ dX0_not_28
end
section
/-! MateDesk: turn -/
section X0b
variable {p : Program} {l : Launch} {e : Env} {R : Room} {s : State} {m : MethodId} {args : Array Value} {below : List Frame} {meth : Method} {c : Code} {cells slots : Nat} {Q : State → Prop}
variable {D : va_G} {A : Nat → Prop} {H0 : Heap} {a : Nat → Nat} {ca : Nat → ClassId}
variable {lf : Int32} {Rn : Nat} {my mt fr ln : Nat → Int32} {wy : Nat → Int64} {H : Heap} {locs : List Loc}
set_option maxHeartbeats 4000000 in
set_option maxRecDepth 100000 in
theorem lp0_had (S : CallFix p m c cX0_turn 7 s args lw_all RX0) {MT : Nat → Nat} {k b av : Nat} (hR : Rn ≤ 8) (hmt : zm_ar 8 MT mt) (hav : av ≤ 8) (w : zW D (zt_0 ca) A H0 s (zw_0 a ca lf (nI Rn) my mt fr ln wy) H locs) (kk : ∀ (had : Nat) (ls : Array Slot), ((had = 8 ∧ ∀ j, j < Rn → MT j ≠ av) ∨ (had < Rn ∧ MT had = av)) → lv_has ls 7 [(0, .ref (a 0)), (2, .int (zm_e k)), (3, .int (zm_e b)), (4, .int (zm_e av)), (5, .int (zm_e had))] → W p l e R s m args below meth c H locs cells slots Q (F0 m 52 ls [])) : ∀ (n i had : Nat), Rn + 1 ≤ i + n → i ≤ Rn → ((had = 8 ∧ ∀ j, j < i → MT j ≠ av) ∨ (had < i ∧ MT had = av)) → ∀ (ls : Array Slot), lv_has ls 7 [(0, .ref (a 0)), (2, .int (zm_e k)), (3, .int (zm_e b)), (4, .int (zm_e av)), (5, .int (zm_e had)), (6, .int (nI i))] → W p l e R s m args below meth c H locs cells slots Q (F0 m 21 ls []) := by
  intro n
  induction n with
  | zero =>
    intro i had h1 h2
    exact absurd h1 (by omega)
  | succ n ih =>
    intro i had h1 h2 h3 ls hl
    refine lv_iload S.1 S.2.1 dX0_turn_21 (lv_at hl 5 rfl) ?_
    refine lv_aload_n S.1 S.2.1 dX0_turn_23 rfl (lv_at hl 0 rfl) ?_
    refine g0_rt S w dX0_turn_24 ?_
    refine zm_ge S (tgt := 52) (by omega) (by omega) dX0_turn_27 (by decide) (fun h => ?_) (fun h => ?_)
    · have hi : i = Rn := by omega
      subst hi
      exact kk had ls h3 (lv_sub hl [0, 1, 2, 3, 4] rfl)
    · refine lv_aload_n S.1 S.2.1 dX0_turn_30 rfl (lv_at hl 0 rfl) ?_
      refine g0_mt S w dX0_turn_31 ?_
      refine lv_iload S.1 S.2.1 dX0_turn_34 (lv_at hl 5 rfl) ?_
      refine ld0_mt (v := zm_e (MT i)) S w (by omega) ((hmt i (by omega)).1) dX0_turn_36 ?_
      refine lv_iload S.1 S.2.1 dX0_turn_37 (lv_at hl 3 rfl) ?_
      refine zm_ene S (tgt := 46) (hmt i (by omega)).2 hav dX0_turn_39 (by decide) (fun h4 => ?_) (fun h4 => ?_)
      · refine lv_iinc (v := nI (i + 1)) (lv' := [(6, .int (nI (i + 1))), (0, .ref (a 0)), (2, .int (zm_e k)), (3, .int (zm_e b)), (4, .int (zm_e av)), (5, .int (zm_e had))]) S.1 S.2.1 dX0_turn_46 hl (k := 5) rfl (zm_inc _) (by decide) rfl (fun ls hl => ?_)
        refine lv_goto (tgt := 21) S.1 S.2.1 dX0_turn_49 (by decide) ?_
        refine ih (i + 1) had (by omega) (by omega) ?_ ls (lv_sub hl [1, 2, 3, 4, 5, 0] rfl)
        rcases h3 with ⟨e1, e2⟩ | ⟨e1, e2⟩
        · refine Or.inl ⟨e1, fun j hj => ?_⟩
          by_cases e : j = i
          · rw [e]; exact h4
          · exact e2 j (by omega)
        · exact Or.inr ⟨by omega, e2⟩
      · refine lv_iload S.1 S.2.1 dX0_turn_42 (lv_at hl 5 rfl) ?_
        refine zm_top ((zm_en (by omega)).symm) ?_
        refine lv_istore (lv' := [(5, .int (zm_e i)), (0, .ref (a 0)), (2, .int (zm_e k)), (3, .int (zm_e b)), (4, .int (zm_e av)), (6, .int (nI i))]) S.1 S.2.1 dX0_turn_44 hl (by decide) rfl (fun ls hl => ?_)
        refine lv_iinc (v := nI (i + 1)) (lv' := [(6, .int (nI (i + 1))), (5, .int (zm_e i)), (0, .ref (a 0)), (2, .int (zm_e k)), (3, .int (zm_e b)), (4, .int (zm_e av))]) S.1 S.2.1 dX0_turn_46 hl (k := 5) rfl (zm_inc _) (by decide) rfl (fun ls hl => ?_)
        refine lv_goto (tgt := 21) S.1 S.2.1 dX0_turn_49 (by decide) ?_
        exact ih (i + 1) i (by omega) (by omega) (Or.inr ⟨by omega, h4⟩) ls (lv_sub hl [2, 3, 4, 5, 1, 0] rfl)
set_option maxHeartbeats 4000000 in
set_option maxRecDepth 100000 in
theorem lp0_turn (S : CallFix p m c cX0_turn 7 s args lw_all RX0) {FR g q : Nat → Nat} {k cn : Nat} (hR : Rn ≤ 8) (hk : k < 8) (hfr : zm_ar 8 FR fr) (kk : ∀ (MT : Nat → Nat) (mt : Nat → Int32) (H : Heap) (locs : List Loc) (ls : Array Slot), zm_ar 8 MT mt → zp_M Rn g (k + 1) MT → zp_n Rn MT = cn + 1 → zW D (zt_0 ca) A H0 s (zw_0 a ca lf (nI Rn) my mt fr ln wy) H locs → W p l e R s m args below meth c H locs cells slots Q (F0 m 76 ls [])) : ∀ (n j b : Nat) (MT : Nat → Nat) (mt : Nat → Int32), j < n → zp_T Rn g k FR q cn b j MT → zm_ar 8 MT mt → ∀ (H : Heap) (locs : List Loc) (ls : Array Slot), zW D (zt_0 ca) A H0 s (zw_0 a ca lf (nI Rn) my mt fr ln wy) H locs → lv_has ls 7 [(0, .ref (a 0)), (2, .int (zm_e k)), (3, .int (zm_e b))] → W p l e R s m args below meth c H locs cells slots Q (F0 m 2 ls []) := by
  intro n
  induction n with
  | zero =>
    intro j b MT mt h1
    exact absurd h1 (by omega)
  | succ n ih =>
    intro j b MT mt h1 hT hmt H locs ls w hl
    have hb : b < Rn := hT.1
    refine lv_iload_n S.1 S.2.1 dX0_turn_2 rfl (lv_at hl 2 rfl) ?_
    refine lv_iconst (v := zm_e 8) S.1 S.2.1 dX0_turn_3 (by decide) ?_
    refine zm_eeq S (tgt := 76) (by omega) (by omega) dX0_turn_4 (by decide) (fun h => ?_) (fun h => ?_)
    · exact absurd h (by omega)
    · refine lv_aload_n S.1 S.2.1 dX0_turn_7 rfl (lv_at hl 0 rfl) ?_
      refine g0_fr S w dX0_turn_8 ?_
      refine lv_iload_n S.1 S.2.1 dX0_turn_11 rfl (lv_at hl 2 rfl) ?_
      refine zm_top (zm_en (by omega)) ?_
      refine ld0_fr (v := zm_e (FR b)) S w (by omega) ((hfr b (by omega)).1) dX0_turn_12 ?_
      refine lv_istore (lv' := [(4, .int (zm_e (FR b))), (0, .ref (a 0)), (2, .int (zm_e k)), (3, .int (zm_e b))]) S.1 S.2.1 dX0_turn_13 hl (by decide) rfl (fun ls hl => ?_)
      refine lv_iconst (v := zm_e 8) S.1 S.2.1 dX0_turn_15 (by decide) ?_
      refine lv_istore (lv' := [(5, .int (zm_e 8)), (4, .int (zm_e (FR b))), (0, .ref (a 0)), (2, .int (zm_e k)), (3, .int (zm_e b))]) S.1 S.2.1 dX0_turn_16 hl (by decide) rfl (fun ls hl => ?_)
      refine lv_iconst (v := nI 0) S.1 S.2.1 dX0_turn_18 (by decide) ?_
      refine lv_istore (lv' := [(6, .int (nI 0)), (5, .int (zm_e 8)), (4, .int (zm_e (FR b))), (0, .ref (a 0)), (2, .int (zm_e k)), (3, .int (zm_e b))]) S.1 S.2.1 dX0_turn_19 hl (by decide) rfl (fun ls hl => ?_)
      refine lp0_had (b := b) (k := k) S hR hmt (hfr b (by omega)).2 w (fun had ls hh hl => ?_) (Rn + 1) 0 8 (by omega) (by omega) (Or.inl ⟨rfl, fun j hj => absurd hj (by omega)⟩) ls (lv_sub hl [3, 4, 5, 2, 1, 0] rfl)
      refine lv_aload_n S.1 S.2.1 dX0_turn_52 rfl (lv_at hl 0 rfl) ?_
      refine g0_mt S w dX0_turn_53 ?_
      refine lv_iload_n S.1 S.2.1 dX0_turn_56 rfl (lv_at hl 2 rfl) ?_
      refine zm_top (zm_en (by omega)) ?_
      refine lv_iload S.1 S.2.1 dX0_turn_57 (lv_at hl 3 rfl) ?_
      refine st0_mt S w (by omega) dX0_turn_59 (fun H locs w => ?_)
      refine lv_iload S.1 S.2.1 dX0_turn_60 (lv_at hl 3 rfl) ?_
      refine lv_iload_n S.1 S.2.1 dX0_turn_62 rfl (lv_at hl 1 rfl) ?_
      refine zm_ene S (tgt := 70) (hfr b (by omega)).2 (by omega) dX0_turn_63 (by decide) (fun h4 => ?_) (fun h4 => ?_)
      · obtain ⟨hh1, j', hj, hT2⟩ := zp_T_step hT h4 hh
        refine lv_iload S.1 S.2.1 dX0_turn_70 (lv_at hl 4 rfl) ?_
        refine lv_istore_n (lv' := [(3, .int (zm_e had)), (0, .ref (a 0)), (2, .int (zm_e k)), (4, .int (zm_e (FR b))), (5, .int (zm_e had))]) S.1 S.2.1 dX0_turn_72 rfl hl (by decide) rfl (fun ls hl => ?_)
        refine lv_goto (tgt := 2) S.1 S.2.1 dX0_turn_73 (by decide) ?_
        exact ih j' had (zp_u MT b (FR b)) _ (by omega) hT2 (zm_ar_upd hmt (hfr b (by omega)).2 rfl) H locs ls w (lv_sub hl [1, 2, 0] rfl)
      · obtain ⟨hM2, hn2⟩ := zp_T_done hk hT h4
        refine lv_iconst (v := zm_e 8) S.1 S.2.1 dX0_turn_66 (by decide) ?_
        refine lv_goto (tgt := 72) S.1 S.2.1 dX0_turn_67 (by decide) ?_
        refine lv_istore_n (lv' := [(3, .int (zm_e 8)), (0, .ref (a 0)), (2, .int (zm_e k)), (4, .int (zm_e (FR b))), (5, .int (zm_e had))]) S.1 S.2.1 dX0_turn_72 rfl hl (by decide) rfl (fun ls hl => ?_)
        refine lv_goto (tgt := 2) S.1 S.2.1 dX0_turn_73 (by decide) ?_
        refine lv_iload_n S.1 S.2.1 dX0_turn_2 rfl (lv_at hl 0 rfl) ?_
        refine lv_iconst (v := zm_e 8) S.1 S.2.1 dX0_turn_3 (by decide) ?_
        refine zm_eeq S (tgt := 76) (by omega) (by omega) dX0_turn_4 (by decide) (fun h5 => ?_) (fun h5 => ?_)
        · exact kk (zp_u MT b k) _ H locs ls (zm_ar_upd hmt (by omega) (by rw [h4])) hM2 hn2 w
        · exact absurd rfl h5
end X0b
set_option maxHeartbeats 4000000 in
set_option maxRecDepth 100000 in
theorem ct_turn0 (l : Launch) (D : va_G) (a : Nat → Nat) (ca : Nat → ClassId) (Rn : Nat) (g : Nat → Nat) (k : Nat) (FR q : Nat → Nat) (cn b j : Nat) (MT : Nat → Nat) (lf : Int32) (my mt fr ln : Nat → Int32) (wy : Nat → Int64) (hR : Rn ≤ 8) (hk : k < 8) (hT : zp_T Rn g k FR q cn b j MT) (hmt : zm_ar 8 MT mt) (hfr : zm_ar 8 FR fr) : zCv l yX0_turn cX0_turn 7 (zr 0 0) D (zf_0 a ca) (zt_0 ca) [.ref (a 0), .int (nI b), .int (nI k)] (lf, nI Rn, my, mt, fr, ln, wy) (fun u => ∃ (MT' : Nat → Nat) (mt' : Nat → Int32), zm_ar 8 MT' mt' ∧ zp_M Rn g (k + 1) MT' ∧ zp_n Rn MT' = cn + 1 ∧ u = (lf, nI Rn, my, mt', fr, ln, wy)) := by
  refine zmet_v RX0 (by decide) rfl (Nat.le_of_ble_eq_true rfl) ?_
  intro p e s m args below meth c A Q ls S hA w hl hret
  have hb : b < Rn := hT.1
  have hl : lv_has ls 7 [(0, .ref (a 0)), (1, .int (nI b)), (2, .int (nI k))] := hl
  have hl : lv_has ls 7 [(0, .ref (a 0)), (1, .int (zm_e b)), (2, .int (zm_e k))] := by
    rw [zm_en (v := b) (by omega), zm_en (v := k) (by omega)]
    exact hl
  have w : zW D (zt_0 ca) A s.heap s (zw_0 a ca lf (nI Rn) my mt fr ln wy) s.heap [] := w
  refine lv_iload_n S.1 S.2.1 dX0_turn_0 rfl (lv_at hl 1 rfl) ?_
  refine lv_istore_n (lv' := [(3, .int (zm_e b)), (0, .ref (a 0)), (1, .int (zm_e b)), (2, .int (zm_e k))]) S.1 S.2.1 dX0_turn_1 rfl hl (by decide) rfl (fun ls hl => ?_)
  exact lp0_turn S hR hk hfr (fun MT' mt' H locs ls h1 h2 h3 w => hret H locs 76 ls (lf, nI Rn, my, mt', fr, ln, wy) w ⟨MT', mt', h1, h2, h3, rfl⟩ dX0_turn_76) (j + 1) j b MT mt (by omega) hT hmt _ _ ls w (lv_sub hl [1, 3, 0] rfl)
end
section
/-! MateDesk: grows -/
theorem zp_G_l {R : Nat} {g : Nat → Nat} {k : Nat} {mt fr q : Nat → Nat} {f l : Nat} (hR : R ≤ 8) (h : zp_G R g k mt fr q f l) : f ≤ l ∧ l ≤ 9 := by
  have h1 := h.1
  have h2 := h.2.2.2.1
  have h3 : zp_n R fr ≤ R := zp_cnt_le
  omega
theorem zp_M_up {R : Nat} {g : Nat → Nat} {k : Nat} {mt : Nat → Nat} (h : zp_M R g k mt) : zp_M R g (k + 1) mt :=
  ⟨fun b hb hn => ⟨by have := (h.1 b hb hn).1; omega, (h.1 b hb hn).2⟩, h.2⟩
section X0c
variable {p : Program} {l : Launch} {e : Env} {R : Room} {s : State} {m : MethodId} {args : Array Value} {below : List Frame} {meth : Method} {c : Code} {cells slots : Nat} {Q : State → Prop}
variable {D : va_G} {A : Nat → Prop} {H0 : Heap} {a : Nat → Nat} {ca : Nat → ClassId}
variable {lf : Int32} {Rn : Nat} {my mt fr ln : Nat → Int32} {wy : Nat → Int64}
set_option maxHeartbeats 4000000 in
set_option maxRecDepth 100000 in
theorem lp0_fill_grows (S : CallFix p m c cX0_grows 6 s args lw_all RX0) {rt : Int32} {x1 : Int32} (kk : ∀ (fr : Nat → Int32) (H : Heap) (locs : List Loc) (ls : Array Slot), (∀ j, j < 8 → fr j = zm_e 8) → zW D (zt_0 ca) A H0 s (zw_0 a ca lf rt my mt fr ln wy) H locs → lv_has ls 6 [(0, .ref (a 0)), (1, .int x1)] → W p l e R s m args below meth c H locs cells slots Q (F0 m 21 ls [])) : ∀ (n i : Nat) (fr : Nat → Int32), 9 ≤ i + n → i ≤ 8 → (∀ j, j < i → fr j = zm_e 8) → ∀ (H : Heap) (locs : List Loc) (ls : Array Slot), zW D (zt_0 ca) A H0 s (zw_0 a ca lf rt my mt fr ln wy) H locs → lv_has ls 6 [(0, .ref (a 0)), (1, .int x1), (2, .int (nI i))] → W p l e R s m args below meth c H locs cells slots Q (F0 m 2 ls []) := by
  intro n
  induction n with
  | zero =>
    intro i fr h1 h2
    exact absurd h1 (by omega)
  | succ n ih =>
    intro i fr h1 h2 h3 H locs ls w hl
    refine lv_iload_n S.1 S.2.1 dX0_grows_2 rfl (lv_at hl 2 rfl) ?_
    refine lv_bipush (v := nI 8) S.1 S.2.1 dX0_grows_3 (by decide) ?_
    refine zm_ge S (tgt := 21) (by omega) (by decide) dX0_grows_5 (by decide) (fun h => ?_) (fun h => ?_)
    · exact kk fr H locs ls (fun j hj => h3 j (by omega)) w (lv_sub hl [0, 1] rfl)
    · refine lv_aload_n S.1 S.2.1 dX0_grows_8 rfl (lv_at hl 0 rfl) ?_
      refine g0_fr S w dX0_grows_9 ?_
      refine lv_iload_n S.1 S.2.1 dX0_grows_12 rfl (lv_at hl 2 rfl) ?_
      refine lv_iconst (v := zm_e 8) S.1 S.2.1 dX0_grows_13 (by decide) ?_
      refine st0_fr S w (by omega) dX0_grows_14 (fun H locs w => ?_)
      refine lv_iinc (v := nI (i + 1)) (lv' := [(2, .int (nI (i + 1))), (0, .ref (a 0)), (1, .int x1)]) S.1 S.2.1 dX0_grows_15 hl (k := 2) rfl (zm_inc _) (by decide) rfl (fun ls hl => ?_)
      refine lv_goto (tgt := 2) S.1 S.2.1 dX0_grows_18 (by decide) ?_
      refine ih (i + 1) (upd fr i (zm_e 8)) (by omega) (by omega) (fun j hj => ?_) H locs ls w (lv_sub hl [1, 2, 0] rfl)
      by_cases e : j = i
      · rw [e, pk_us]
      · rw [pk_un e]
        exact h3 j (by omega)
set_option maxHeartbeats 4000000 in
set_option maxRecDepth 100000 in
theorem lp0_fill_most (S : CallFix p m c cX0_most 3 s args lw_all RX0) {rt : Int32} (kk : ∀ (mt : Nat → Int32) (H : Heap) (locs : List Loc) (ls : Array Slot), (∀ j, j < 8 → mt j = zm_e 8) → zW D (zt_0 ca) A H0 s (zw_0 a ca lf rt my mt fr ln wy) H locs → lv_has ls 3 [(0, .ref (a 0))] → W p l e R s m args below meth c H locs cells slots Q (F0 m 21 ls [])) : ∀ (n i : Nat) (mt : Nat → Int32), 9 ≤ i + n → i ≤ 8 → (∀ j, j < i → mt j = zm_e 8) → ∀ (H : Heap) (locs : List Loc) (ls : Array Slot), zW D (zt_0 ca) A H0 s (zw_0 a ca lf rt my mt fr ln wy) H locs → lv_has ls 3 [(0, .ref (a 0)), (1, .int (nI i))] → W p l e R s m args below meth c H locs cells slots Q (F0 m 2 ls []) := by
  intro n
  induction n with
  | zero =>
    intro i mt h1 h2
    exact absurd h1 (by omega)
  | succ n ih =>
    intro i mt h1 h2 h3 H locs ls w hl
    refine lv_iload_n S.1 S.2.1 dX0_most_2 rfl (lv_at hl 1 rfl) ?_
    refine lv_bipush (v := nI 8) S.1 S.2.1 dX0_most_3 (by decide) ?_
    refine zm_ge S (tgt := 21) (by omega) (by decide) dX0_most_5 (by decide) (fun h => ?_) (fun h => ?_)
    · exact kk mt H locs ls (fun j hj => h3 j (by omega)) w (lv_sub hl [0] rfl)
    · refine lv_aload_n S.1 S.2.1 dX0_most_8 rfl (lv_at hl 0 rfl) ?_
      refine g0_mt S w dX0_most_9 ?_
      refine lv_iload_n S.1 S.2.1 dX0_most_12 rfl (lv_at hl 1 rfl) ?_
      refine lv_iconst (v := zm_e 8) S.1 S.2.1 dX0_most_13 (by decide) ?_
      refine st0_mt S w (by omega) dX0_most_14 (fun H locs w => ?_)
      refine lv_iinc (v := nI (i + 1)) (lv' := [(1, .int (nI (i + 1))), (0, .ref (a 0))]) S.1 S.2.1 dX0_most_15 hl (k := 1) rfl (zm_inc _) (by decide) rfl (fun ls hl => ?_)
      refine lv_goto (tgt := 2) S.1 S.2.1 dX0_most_18 (by decide) ?_
      refine ih (i + 1) (upd mt i (zm_e 8)) (by omega) (by omega) (fun j hj => ?_) H locs ls w (lv_sub hl [1, 0] rfl)
      by_cases e : j = i
      · rw [e, pk_us]
      · rw [pk_un e]
        exact h3 j (by omega)
set_option maxHeartbeats 4000000 in
set_option maxRecDepth 100000 in
theorem lp0_inner (S : CallFix p m c cX0_grows 6 s args lw_all RX0) {MT g : Nat → Nat} {k f av : Nat} (hA : ∀ q, H0.size ≤ q → A q) (hRm : 1 ≤ R.frames ∧ 26 ≤ R.locals) (hcs : cells ≤ R.cells ∧ slots ≤ R.slots) (hR : Rn ≤ 8) (hk : k < 8) (hg : zm_g g my) (hlt : ∀ i, g i < 2 ^ Rn) (hM : zp_M Rn g k MT) (hmt : zm_ar 8 MT mt) (hav : av < 8) (kT : ∀ (MT' : Nat → Nat) (mt fr ln : Nat → Int32) (H : Heap) (locs : List Loc) (ls : Array Slot), zm_ar 8 MT' mt → zp_M Rn g (k + 1) MT' → zp_n Rn MT' = zp_n Rn MT + 1 → zW D (zt_0 ca) A H0 s (zw_0 a ca lf (nI Rn) my mt fr ln wy) H locs → W p l e R s m args below meth c H locs cells slots Q (F0 m 117 ls [.int (nI 1)]))
    (kO : ∀ (FR q : Nat → Nat) (fr ln : Nat → Int32) (lq : Nat) (H : Heap) (locs : List Loc) (ls : Array Slot), zp_G Rn g k MT FR q (f + 1) lq → zm_ar 8 FR fr → zm_ar lq q ln → zW D (zt_0 ca) A H0 s (zw_0 a ca lf (nI Rn) my mt fr ln wy) H locs → lv_has ls 6 [(0, .ref (a 0)), (1, .int (nI k)), (2, .int (nI (f + 1))), (3, .int (nI lq))] → W p l e R s m args below meth c H locs cells slots Q (F0 m 32 ls [])) :
    ∀ (n b : Nat) (FR q : Nat → Nat) (fr ln : Nat → Int32) (lq : Nat), Rn + 1 ≤ b + n → b ≤ Rn → q f = av → zp_H Rn g k MT FR q f lq b → zm_ar 8 FR fr → zm_ar lq q ln → ∀ (H : Heap) (locs : List Loc) (ls : Array Slot), zW D (zt_0 ca) A H0 s (zw_0 a ca lf (nI Rn) my mt fr ln wy) H locs → lv_has ls 6 [(0, .ref (a 0)), (1, .int (nI k)), (2, .int (nI (f + 1))), (3, .int (nI lq)), (4, .int (nI av)), (5, .int (nI b))] → W p l e R s m args below meth c H locs cells slots Q (F0 m 51 ls []) := by
  have hg256 : ∀ i, g i < 256 := fun i => Nat.lt_of_lt_of_le (hlt i) (zp_pow hR)
  intro n
  induction n with
  | zero =>
    intro b FR q fr ln lq h1 h2
    exact absurd h1 (by omega)
  | succ n ih =>
    intro b FR q fr ln lq h1 h2 hq hH hfr hln H locs ls w hl
    refine lv_iload S.1 S.2.1 dX0_grows_51 (lv_at hl 5 rfl) ?_
    refine lv_aload_n S.1 S.2.1 dX0_grows_53 rfl (lv_at hl 0 rfl) ?_
    refine g0_rt S w dX0_grows_54 ?_
    refine zm_ge S (tgt := 140) (by omega) (by omega) dX0_grows_57 (by decide) (fun h => ?_) (fun h => ?_)
    · refine lv_goto (tgt := 32) S.1 S.2.1 dX0_grows_140 (by decide) ?_
      exact kO FR q fr ln lq H locs ls (zp_H_end hH h) hfr hln w (lv_sub hl [0, 1, 2, 3] rfl)
    · refine lv_aload_n S.1 S.2.1 dX0_grows_60 rfl (lv_at hl 0 rfl) ?_
      refine g0_my S w dX0_grows_61 ?_
      refine lv_iload S.1 S.2.1 dX0_grows_64 (lv_at hl 4 rfl) ?_
      refine ld0_my (v := nI (g av)) S w (by omega) (hg _ (by omega)) dX0_grows_66 ?_
      refine lv_iload S.1 S.2.1 dX0_grows_67 (lv_at hl 5 rfl) ?_
      refine zm_bit S (hg256 _) (by omega) dX0_grows_69 dX0_grows_70 dX0_grows_71 ?_
      refine zm_bif S (tgt := 134) dX0_grows_72 (by decide) (fun hE => ?_) (fun hE => ?_)
      · refine lv_iinc (v := nI (b + 1)) (lv' := [(5, .int (nI (b + 1))), (0, .ref (a 0)), (1, .int (nI k)), (2, .int (nI (f + 1))), (3, .int (nI lq)), (4, .int (nI av))]) S.1 S.2.1 dX0_grows_134 hl (k := 5) rfl (zm_inc _) (by decide) rfl (fun ls hl => ?_)
        refine lv_goto (tgt := 51) S.1 S.2.1 dX0_grows_137 (by decide) ?_
        exact ih (b + 1) FR q fr ln lq (by omega) (by omega) hq (zp_H_skip hH (Or.inl (by rw [hq]; exact hE))) hfr hln H locs ls w (lv_sub hl [1, 2, 3, 4, 5, 0] rfl)
      · refine lv_aload_n S.1 S.2.1 dX0_grows_75 rfl (lv_at hl 0 rfl) ?_
        refine g0_fr S w dX0_grows_76 ?_
        refine lv_iload S.1 S.2.1 dX0_grows_79 (lv_at hl 5 rfl) ?_
        refine ld0_fr (v := zm_e (FR b)) S w (by omega) ((hfr b (by omega)).1) dX0_grows_81 ?_
        refine lv_iconst (v := zm_e 8) S.1 S.2.1 dX0_grows_82 (by decide) ?_
        refine zm_eeq S (tgt := 89) (hfr b (by omega)).2 (by omega) dX0_grows_83 (by decide) (fun hF => ?_) (fun hF => ?_)
        · have hlR := zp_H_l hH (by omega) hF
          have hfr2 : zm_ar 8 (zp_u FR b av) (upd fr b (nI av)) := zm_ar_upd hfr (by omega) (zm_en (by omega)).symm
          refine lv_aload_n S.1 S.2.1 dX0_grows_89 rfl (lv_at hl 0 rfl) ?_
          refine g0_fr S w dX0_grows_90 ?_
          refine lv_iload S.1 S.2.1 dX0_grows_93 (lv_at hl 5 rfl) ?_
          refine lv_iload S.1 S.2.1 dX0_grows_95 (lv_at hl 4 rfl) ?_
          refine st0_fr S w (by omega) dX0_grows_97 (fun H locs w => ?_)
          refine lv_aload_n S.1 S.2.1 dX0_grows_98 rfl (lv_at hl 0 rfl) ?_
          refine g0_mt S w dX0_grows_99 ?_
          refine lv_iload S.1 S.2.1 dX0_grows_102 (lv_at hl 5 rfl) ?_
          refine ld0_mt (v := zm_e (MT b)) S w (by omega) ((hmt b (by omega)).1) dX0_grows_104 ?_
          refine lv_iconst (v := zm_e 8) S.1 S.2.1 dX0_grows_105 (by decide) ?_
          refine zm_ene S (tgt := 118) (hmt b (by omega)).2 (by omega) dX0_grows_106 (by decide) (fun hm => ?_) (fun hm => ?_)
          · refine lv_aload_n S.1 S.2.1 dX0_grows_118 rfl (lv_at hl 0 rfl) ?_
            refine g0_ln S w dX0_grows_119 ?_
            refine lv_iload_n S.1 S.2.1 dX0_grows_122 rfl (lv_at hl 3 rfl) ?_
            refine lv_aload_n S.1 S.2.1 dX0_grows_123 rfl (lv_at hl 0 rfl) ?_
            refine g0_mt S w dX0_grows_124 ?_
            refine lv_iload S.1 S.2.1 dX0_grows_127 (lv_at hl 5 rfl) ?_
            refine ld0_mt (v := zm_e (MT b)) S w (by omega) ((hmt b (by omega)).1) dX0_grows_129 ?_
            refine st0_ln S w (by omega) dX0_grows_130 (fun H locs w => ?_)
            refine lv_iinc (v := nI (lq + 1)) (lv' := [(3, .int (nI (lq + 1))), (0, .ref (a 0)), (1, .int (nI k)), (2, .int (nI (f + 1))), (4, .int (nI av)), (5, .int (nI b))]) S.1 S.2.1 dX0_grows_131 hl (k := 3) rfl (zm_inc _) (by decide) rfl (fun ls hl => ?_)
            refine lv_iinc (v := nI (b + 1)) (lv' := [(5, .int (nI (b + 1))), (3, .int (nI (lq + 1))), (0, .ref (a 0)), (1, .int (nI k)), (2, .int (nI (f + 1))), (4, .int (nI av))]) S.1 S.2.1 dX0_grows_134 hl (k := 5) rfl (zm_inc _) (by decide) rfl (fun ls hl => ?_)
            refine lv_goto (tgt := 51) S.1 S.2.1 dX0_grows_137 (by decide) ?_
            have hH2 := zp_H_visit hk hM hH (by omega) (by rw [hq]; exact hE) hF hm
            rw [hq] at hH2
            exact ih (b + 1) (zp_u FR b av) (zp_u q lq (MT b)) _ _ (lq + 1) (by omega) (by omega) (by rw [zp_un (by have := hH.1; omega)]; exact hq) hH2 hfr2 (zm_ar_push hln (hmt b (by omega)).2 rfl) H locs ls w (lv_sub hl [2, 3, 4, 1, 5, 0] rfl)
          · have hT := zp_H_found hk hM hH (by omega) (by rw [hq]; exact hE) hm
            rw [hq] at hT
            refine lv_aload_n S.1 S.2.1 dX0_grows_109 rfl (lv_at hl 0 rfl) ?_
            refine lv_iload S.1 S.2.1 dX0_grows_110 (lv_at hl 5 rfl) ?_
            refine lv_iload_n S.1 S.2.1 dX0_grows_112 rfl (lv_at hl 1 rfl) ?_
            refine zcall_v (tyc := zt_0 ca) (tyr := []) (wf := zf_0 a ca) (wr := []) (u := (lf, nI Rn, my, mt, upd fr b (nI av), ln, wy)) (As := [.int (nI b), .int (nI k)]) (rest := []) S hA w (ct_turn0 l D a ca Rn g k (zp_u FR b av) q (zp_n Rn MT) b f MT lf my mt (upd fr b (nI av)) ln wy hR hk hT hmt hfr2) (cwV 2 S.2.2.2.2 (lw_V q62 q64 qs1 q4 q65) rfl rfl rfl (by decide +kernel) ⟨hRm.1, hRm.2⟩) (va_recv (ci := 0) (q0 := 0) w.1 w.2.1 rfl rfl) rfl hl.1 rfl (Nat.le_of_ble_eq_true rfl) hcs dX0_grows_113 (fun u H locs hp w => ?_)
            obtain ⟨MT', mt', e1, e2, e3, rfl⟩ := hp
            have w : zW D (zt_0 ca) A H0 s (zw_0 a ca lf (nI Rn) my mt' (upd fr b (nI av)) ln wy) H locs := w
            refine lv_iconst (v := nI 1) S.1 S.2.1 dX0_grows_116 (by decide) ?_
            exact kT MT' mt' (upd fr b (nI av)) ln H locs ls e1 e2 e3 w
        · refine lv_goto (tgt := 134) S.1 S.2.1 dX0_grows_86 (by decide) ?_
          refine lv_iinc (v := nI (b + 1)) (lv' := [(5, .int (nI (b + 1))), (0, .ref (a 0)), (1, .int (nI k)), (2, .int (nI (f + 1))), (3, .int (nI lq)), (4, .int (nI av))]) S.1 S.2.1 dX0_grows_134 hl (k := 5) rfl (zm_inc _) (by decide) rfl (fun ls hl => ?_)
          refine lv_goto (tgt := 51) S.1 S.2.1 dX0_grows_137 (by decide) ?_
          exact ih (b + 1) FR q fr ln lq (by omega) (by omega) hq (zp_H_skip hH (Or.inr hF)) hfr hln H locs ls w (lv_sub hl [1, 2, 3, 4, 5, 0] rfl)
set_option maxHeartbeats 4000000 in
set_option maxRecDepth 100000 in
theorem lp0_outer (S : CallFix p m c cX0_grows 6 s args lw_all RX0) {MT g : Nat → Nat} {k : Nat} (hA : ∀ q, H0.size ≤ q → A q) (hRm : 1 ≤ R.frames ∧ 26 ≤ R.locals) (hcs : cells ≤ R.cells ∧ slots ≤ R.slots) (hR : Rn ≤ 8) (hk : k < 8) (hg : zm_g g my) (hlt : ∀ i, g i < 2 ^ Rn) (hM : zp_M Rn g k MT) (hmt : zm_ar 8 MT mt) (kT : ∀ (MT' : Nat → Nat) (mt fr ln : Nat → Int32) (H : Heap) (locs : List Loc) (ls : Array Slot), zm_ar 8 MT' mt → zp_M Rn g (k + 1) MT' → zp_n Rn MT' = zp_n Rn MT + 1 → zW D (zt_0 ca) A H0 s (zw_0 a ca lf (nI Rn) my mt fr ln wy) H locs → W p l e R s m args below meth c H locs cells slots Q (F0 m 117 ls [.int (nI 1)]))
    (kF : ∀ (FR q : Nat → Nat) (fr ln : Nat → Int32) (f lq : Nat) (H : Heap) (locs : List Loc) (ls : Array Slot), zp_G Rn g k MT FR q f lq → lq ≤ f → zW D (zt_0 ca) A H0 s (zw_0 a ca lf (nI Rn) my mt fr ln wy) H locs → W p l e R s m args below meth c H locs cells slots Q (F0 m 143 ls [])) :
    ∀ (n f : Nat) (FR q : Nat → Nat) (fr ln : Nat → Int32) (lq : Nat), 10 ≤ f + n → zp_G Rn g k MT FR q f lq → zm_ar 8 FR fr → zm_ar lq q ln → ∀ (H : Heap) (locs : List Loc) (ls : Array Slot), zW D (zt_0 ca) A H0 s (zw_0 a ca lf (nI Rn) my mt fr ln wy) H locs → lv_has ls 6 [(0, .ref (a 0)), (1, .int (nI k)), (2, .int (nI f)), (3, .int (nI lq))] → W p l e R s m args below meth c H locs cells slots Q (F0 m 32 ls []) := by
  intro n
  induction n with
  | zero =>
    intro f FR q fr ln lq h1 hG
    have := zp_G_l hR hG
    exact absurd h1 (by omega)
  | succ n ih =>
    intro f FR q fr ln lq h1 hG hfr hln H locs ls w hl
    have hb := zp_G_l hR hG
    refine lv_iload_n S.1 S.2.1 dX0_grows_32 rfl (lv_at hl 2 rfl) ?_
    refine lv_iload_n S.1 S.2.1 dX0_grows_33 rfl (lv_at hl 3 rfl) ?_
    refine zm_ge S (tgt := 143) (by omega) (by omega) dX0_grows_34 (by decide) (fun h => ?_) (fun h => ?_)
    · exact kF FR q fr ln f lq H locs ls hG h w
    · have hq8 : q f ≠ 8 := zp_Q_ne hk hG.2.1 h
      have hq9 : q f ≤ 8 := (hln f h).2
      refine lv_aload_n S.1 S.2.1 dX0_grows_37 rfl (lv_at hl 0 rfl) ?_
      refine g0_ln S w dX0_grows_38 ?_
      refine lv_iload_n S.1 S.2.1 dX0_grows_41 rfl (lv_at hl 2 rfl) ?_
      refine ld0_ln (v := zm_e (q f)) S w (by omega) ((hln f h).1) dX0_grows_42 ?_
      refine zm_top (zm_en hq8) ?_
      refine lv_istore (lv' := [(4, .int (nI (q f))), (0, .ref (a 0)), (1, .int (nI k)), (2, .int (nI f)), (3, .int (nI lq))]) S.1 S.2.1 dX0_grows_43 hl (by decide) rfl (fun ls hl => ?_)
      refine lv_iinc (v := nI (f + 1)) (lv' := [(2, .int (nI (f + 1))), (4, .int (nI (q f))), (0, .ref (a 0)), (1, .int (nI k)), (3, .int (nI lq))]) S.1 S.2.1 dX0_grows_45 hl (k := 3) rfl (zm_inc _) (by decide) rfl (fun ls hl => ?_)
      refine lv_iconst (v := nI 0) S.1 S.2.1 dX0_grows_48 (by decide) ?_
      refine lv_istore (lv' := [(5, .int (nI 0)), (2, .int (nI (f + 1))), (4, .int (nI (q f))), (0, .ref (a 0)), (1, .int (nI k)), (3, .int (nI lq))]) S.1 S.2.1 dX0_grows_49 hl (by decide) rfl (fun ls hl => ?_)
      exact lp0_inner S hA hRm hcs hR hk hg hlt hM hmt (by omega) kT (fun FR q fr ln lq H locs ls hG hfr hln w hl => ih (f + 1) FR q fr ln lq (by omega) hG hfr hln H locs ls w hl) (Rn + 1) 0 FR q fr ln lq (by omega) (by omega) rfl (zp_H_start hG h) hfr hln H locs ls w (lv_sub hl [3, 4, 1, 5, 2, 0] rfl)
end X0c
set_option maxHeartbeats 4000000 in
set_option maxRecDepth 100000 in
theorem ct_grows0 (l : Launch) (D : va_G) (a : Nat → Nat) (ca : Nat → ClassId) (Rn : Nat) (g : Nat → Nat) (k : Nat) (MT : Nat → Nat) (lf : Int32) (my mt fr ln : Nat → Int32) (wy : Nat → Int64) (hR : Rn ≤ 8) (hk : k < 8) (hg : zm_g g my) (hlt : ∀ i, g i < 2 ^ Rn) (hM : zp_M Rn g k MT) (hmt : zm_ar 8 MT mt) : zCi l yX0_grows cX0_grows 6 .boolean (zr 1 26) D (zf_0 a ca) (zt_0 ca) [.ref (a 0), .int (nI k)] (lf, nI Rn, my, mt, fr, ln, wy) (fun r u => ∃ (MT' : Nat → Nat) (mt' fr' ln' : Nat → Int32), zm_ar 8 MT' mt' ∧ zp_M Rn g (k + 1) MT' ∧ u = (lf, nI Rn, my, mt', fr', ln', wy) ∧ ((r = nI 1 ∧ zp_n Rn MT' = zp_n Rn MT + 1) ∨ (r = nI 0 ∧ zp_n Rn MT' = zp_n Rn MT ∧ (zp_C Rn g k (zp_n Rn MT) → zp_C Rn g (k + 1) (zp_n Rn MT))))) := by
  refine zmet_i RX0 (by decide) rfl (Nat.le_of_ble_eq_true rfl) ?_
  intro p e s m args below meth c A Q ls S hA w hl hret
  have hl : lv_has ls 6 [(0, .ref (a 0)), (1, .int (nI k))] := hl
  have w : zW D (zt_0 ca) A s.heap s (zw_0 a ca lf (nI Rn) my mt fr ln wy) s.heap [] := w
  refine lv_iconst (v := nI 0) S.1 S.2.1 dX0_grows_0 (by decide) ?_
  refine lv_istore_n (lv' := [(2, .int (nI 0)), (0, .ref (a 0)), (1, .int (nI k))]) S.1 S.2.1 dX0_grows_1 rfl hl (by decide) rfl (fun ls hl => ?_)
  refine lp0_fill_grows S (fun fr H locs ls h w hl => ?_) 9 0 fr (by omega) (by omega) (fun j hj => absurd hj (by omega)) _ _ ls w (lv_sub hl [1, 2, 0] rfl)
  refine lv_iconst (v := nI 0) S.1 S.2.1 dX0_grows_21 (by decide) ?_
  refine lv_istore_n (lv' := [(2, .int (nI 0)), (0, .ref (a 0)), (1, .int (nI k))]) S.1 S.2.1 dX0_grows_22 rfl hl (by decide) rfl (fun ls hl => ?_)
  refine lv_iconst (v := nI 1) S.1 S.2.1 dX0_grows_23 (by decide) ?_
  refine lv_istore_n (lv' := [(3, .int (nI 1)), (2, .int (nI 0)), (0, .ref (a 0)), (1, .int (nI k))]) S.1 S.2.1 dX0_grows_24 rfl hl (by decide) rfl (fun ls hl => ?_)
  refine lv_aload_n S.1 S.2.1 dX0_grows_25 rfl (lv_at hl 2 rfl) ?_
  refine g0_ln S w dX0_grows_26 ?_
  refine lv_iconst (v := nI 0) S.1 S.2.1 dX0_grows_29 (by decide) ?_
  refine lv_iload_n S.1 S.2.1 dX0_grows_30 rfl (lv_at hl 3 rfl) ?_
  refine st0_ln S w (by omega) dX0_grows_31 (fun H locs w => ?_)
  have hfr : zm_ar 8 (fun _ => 8) fr := fun i hi => ⟨h i hi, Nat.le_refl 8⟩
  have hln : zm_ar 1 (fun _ => k) (upd ln 0 (nI k)) := fun i hi => by
    have e : i = 0 := by omega
    rw [e, pk_us]
    exact ⟨(zm_en (Nat.ne_of_lt hk)).symm, Nat.le_of_lt hk⟩
  refine lp0_outer S hA ⟨by decide, by decide⟩ ⟨Nat.zero_le _, Nat.zero_le _⟩ hR hk hg hlt hM hmt ?_ ?_ 10 0 (fun _ => 8) (fun _ => k) fr _ 1 (by omega) (zp_G_init (fun b hb => rfl) rfl) hfr hln H locs ls w (lv_sub hl [2, 3, 1, 0] rfl)
  · intro MT' mt' fr' ln' H locs ls e1 e2 e3 w
    exact hret H locs 117 ls (lf, nI Rn, my, mt', fr', ln', wy) (nI 1) w ⟨MT', mt', fr', ln', e1, e2, rfl, Or.inl ⟨rfl, e3⟩⟩ rfl dX0_grows_117
  · intro FR q fr' ln' f lq H locs ls hG hle w
    refine lv_iconst (v := nI 0) S.1 S.2.1 dX0_grows_143 (by decide) ?_
    exact hret H locs 144 ls (lf, nI Rn, my, mt, fr', ln', wy) (nI 0) w ⟨MT, mt, fr', ln', hmt, zp_M_up hM, rfl, Or.inr ⟨rfl, rfl, fun hC => zp_G_end hM hG hle hC⟩⟩ rfl dX0_grows_144
end
section
/-! MateDesk: most, watchers, lack -/
section X0d
variable {p : Program} {l : Launch} {e : Env} {R : Room} {s : State} {m : MethodId} {args : Array Value} {below : List Frame} {meth : Method} {c : Code} {cells slots : Nat} {Q : State → Prop}
variable {D : va_G} {A : Nat → Prop} {H0 : Heap} {a : Nat → Nat} {ca : Nat → ClassId}
variable {Ln Rn : Nat} {my mt fr ln : Nat → Int32} {wy : Nat → Int64}
set_option maxHeartbeats 4000000 in
set_option maxRecDepth 100000 in
theorem lp0_most (S : CallFix p m c cX0_most 3 s args lw_all RX0) {g : Nat → Nat} (hA : ∀ q, H0.size ≤ q → A q) (hRm : 2 ≤ R.frames ∧ 51 ≤ R.locals) (hcs : cells ≤ R.cells ∧ slots ≤ R.slots) (hL : Ln ≤ 8) (hR : Rn ≤ 8) (hg : zm_g g my) (hlt : ∀ i, g i < 2 ^ Rn)
    (kk : ∀ (pn : Nat) (mt fr ln : Nat → Int32) (H : Heap) (locs : List Loc) (ls : Array Slot), zp_Nu Rn g Ln pn → zW D (zt_0 ca) A H0 s (zw_0 a ca (nI Ln) (nI Rn) my mt fr ln wy) H locs → W p l e R s m args below meth c H locs cells slots Q (F0 m 51 ls [.int (nI pn)])) :
    ∀ (n k cn : Nat) (MT : Nat → Nat) (mt fr ln : Nat → Int32), Ln + 1 ≤ k + n → k ≤ Ln → zm_ar 8 MT mt → zp_M Rn g k MT → zp_n Rn MT = cn → zp_C Rn g k cn → ∀ (H : Heap) (locs : List Loc) (ls : Array Slot), zW D (zt_0 ca) A H0 s (zw_0 a ca (nI Ln) (nI Rn) my mt fr ln wy) H locs → lv_has ls 3 [(0, .ref (a 0)), (1, .int (nI cn)), (2, .int (nI k))] → W p l e R s m args below meth c H locs cells slots Q (F0 m 25 ls []) := by
  intro n
  induction n with
  | zero =>
    intro k cn MT mt fr ln h1 h2
    exact absurd h1 (by omega)
  | succ n ih =>
    intro k cn MT mt fr ln h1 h2 hmt hM hn hC H locs ls w hl
    have hcn : zp_n Rn MT ≤ 8 := Nat.le_trans zp_cnt_le hR
    refine lv_iload_n S.1 S.2.1 dX0_most_25 rfl (lv_at hl 2 rfl) ?_
    refine lv_aload_n S.1 S.2.1 dX0_most_26 rfl (lv_at hl 0 rfl) ?_
    refine g0_lf S w dX0_most_27 ?_
    refine zm_ge S (tgt := 50) (by omega) (by omega) dX0_most_30 (by decide) (fun h => ?_) (fun h => ?_)
    · have e : k = Ln := by omega
      subst e
      refine lv_iload_n S.1 S.2.1 dX0_most_50 rfl (lv_at hl 1 rfl) ?_
      exact kk _ mt fr ln H locs ls ⟨⟨MT, hM, hn⟩, hC⟩ w
    · refine lv_aload_n S.1 S.2.1 dX0_most_33 rfl (lv_at hl 0 rfl) ?_
      refine lv_iload_n S.1 S.2.1 dX0_most_34 rfl (lv_at hl 2 rfl) ?_
      refine zcall_i (tyc := zt_0 ca) (tyr := []) (wf := zf_0 a ca) (wr := []) (u := (nI Ln, nI Rn, my, mt, fr, ln, wy)) (As := [.int (nI k)]) (rest := []) S hA w (ct_grows0 l D a ca Rn g k MT (nI Ln) my mt fr ln wy hR (by omega) hg hlt hM hmt) (cwV 1 S.2.2.2.2 (lw_V q58 q60 qs0 q4 q61) rfl rfl rfl (by decide +kernel) ⟨hRm.1, hRm.2⟩) (va_recv (ci := 0) (q0 := 0) w.1 w.2.1 rfl rfl) rfl hl.1 rfl (Nat.le_of_ble_eq_true rfl) hcs dX0_most_35 (fun r u H locs hp w => ?_)
      obtain ⟨MT', mt', fr', ln', e1, e2, rfl, e3⟩ := hp
      have w : zW D (zt_0 ca) A H0 s (zw_0 a ca (nI Ln) (nI Rn) my mt' fr' ln' wy) H locs := w
      rcases e3 with ⟨rfl, e4⟩ | ⟨rfl, e4, e5⟩
      · refine zm_ifeq S (tgt := 44) (by decide) dX0_most_38 (by decide) (fun h9 => ?_) (fun h9 => ?_)
        · exact absurd h9 (by decide)
        · refine lv_iinc (v := nI (cn + 1)) (lv' := [(1, .int (nI (cn + 1))), (0, .ref (a 0)), (2, .int (nI k))]) S.1 S.2.1 dX0_most_41 hl (k := 1) rfl (zm_inc _) (by decide) rfl (fun ls hl => ?_)
          refine lv_iinc (v := nI (k + 1)) (lv' := [(2, .int (nI (k + 1))), (1, .int (nI (cn + 1))), (0, .ref (a 0))]) S.1 S.2.1 dX0_most_44 hl (k := 2) rfl (zm_inc _) (by decide) rfl (fun ls hl => ?_)
          refine lv_goto (tgt := 25) S.1 S.2.1 dX0_most_47 (by decide) ?_
          exact ih (k + 1) (cn + 1) MT' mt' fr' ln' (by omega) (by omega) e1 e2 (by rw [e4, hn]) (zp_C_up hC) H locs ls w (lv_sub hl [2, 1, 0] rfl)
      · refine zm_ifeq S (tgt := 44) (by decide) dX0_most_38 (by decide) (fun h9 => ?_) (fun h9 => ?_)
        · refine lv_iinc (v := nI (k + 1)) (lv' := [(2, .int (nI (k + 1))), (0, .ref (a 0)), (1, .int (nI cn))]) S.1 S.2.1 dX0_most_44 hl (k := 2) rfl (zm_inc _) (by decide) rfl (fun ls hl => ?_)
          refine lv_goto (tgt := 25) S.1 S.2.1 dX0_most_47 (by decide) ?_
          exact ih (k + 1) cn MT' mt' fr' ln' (by omega) (by omega) e1 e2 (by rw [e4, hn]) (by rw [hn] at e5; exact e5 hC) H locs ls w (lv_sub hl [1, 2, 0] rfl)
        · exact absurd rfl h9
end X0d
set_option maxHeartbeats 4000000 in
set_option maxRecDepth 100000 in
theorem ct_most0 (l : Launch) (D : va_G) (a : Nat → Nat) (ca : Nat → ClassId) (Ln Rn : Nat) (g : Nat → Nat) (my mt fr ln : Nat → Int32) (wy : Nat → Int64) (hL : 0 < Ln ∧ Ln ≤ 8) (hR : 0 < Rn ∧ Rn ≤ 8) (hg : zm_g g my) (hlt : ∀ i, g i < 2 ^ Rn) : zCi l yX0_most cX0_most 3 .int (zr 2 51) D (zf_0 a ca) (zt_0 ca) [.ref (a 0)] (nI Ln, nI Rn, my, mt, fr, ln, wy) (fun r u => ∃ (pn : Nat) (mt' fr' ln' : Nat → Int32), zp_Nu Rn g Ln pn ∧ r = nI pn ∧ u = (nI Ln, nI Rn, my, mt', fr', ln', wy)) := by
  refine zmet_i RX0 (by decide) rfl (Nat.le_of_ble_eq_true rfl) ?_
  intro p e s m args below meth c A Q ls S hA w hl hret
  have hl : lv_has ls 3 [(0, .ref (a 0))] := hl
  have w : zW D (zt_0 ca) A s.heap s (zw_0 a ca (nI Ln) (nI Rn) my mt fr ln wy) s.heap [] := w
  refine lv_iconst (v := nI 0) S.1 S.2.1 dX0_most_0 (by decide) ?_
  refine lv_istore_n (lv' := [(1, .int (nI 0)), (0, .ref (a 0))]) S.1 S.2.1 dX0_most_1 rfl hl (by decide) rfl (fun ls hl => ?_)
  refine lp0_fill_most S (fun mt H locs ls h w hl => ?_) 9 0 mt (by omega) (by omega) (fun j hj => absurd hj (by omega)) _ _ ls w (lv_sub hl [1, 0] rfl)
  refine lv_iconst (v := nI 0) S.1 S.2.1 dX0_most_21 (by decide) ?_
  refine lv_istore_n (lv' := [(1, .int (nI 0)), (0, .ref (a 0))]) S.1 S.2.1 dX0_most_22 rfl hl (by decide) rfl (fun ls hl => ?_)
  refine lv_iconst (v := nI 0) S.1 S.2.1 dX0_most_23 (by decide) ?_
  refine lv_istore_n (lv' := [(2, .int (nI 0)), (1, .int (nI 0)), (0, .ref (a 0))]) S.1 S.2.1 dX0_most_24 rfl hl (by decide) rfl (fun ls hl => ?_)
  refine lp0_most S hA ⟨by decide, by decide⟩ ⟨Nat.zero_le _, Nat.zero_le _⟩ hL.2 hR.2 hg hlt ?_ (Ln + 1) 0 0 (fun _ => 8) mt fr ln (by omega) (by omega) (fun i hi => ⟨h i hi, Nat.le_refl 8⟩) (zp_M_0 (fun b hb => rfl)) (zp_n_0 (fun b hb => rfl)) zp_C_0 H locs ls w (lv_sub hl [2, 1, 0] rfl)
  intro pn mt' fr' ln' H locs ls hN w
  exact hret H locs 51 ls (nI Ln, nI Rn, my, mt', fr', ln', wy) (nI pn) w ⟨pn, mt', fr', ln', hN, rfl, rfl⟩ rfl dX0_most_51
set_option maxHeartbeats 4000000 in
set_option maxRecDepth 100000 in
theorem ct_watchers0 (l : Launch) (D : va_G) (a : Nat → Nat) (ca : Nat → ClassId) (Ln Rn : Nat) (g : Nat → Nat) (my mt fr ln : Nat → Int32) (wy : Nat → Int64) (hL : 0 < Ln ∧ Ln ≤ 8) (hR : 0 < Rn ∧ Rn ≤ 8) (hg : zm_g g my) (hlt : ∀ i, g i < 2 ^ Rn) : zCi l yX0_watchers cX0_watchers 1 .int (zr 3 73) D (zf_0 a ca) (zt_0 ca) [.ref (a 0)] (nI Ln, nI Rn, my, mt, fr, ln, wy) (fun r u => ∃ (pn : Nat) (mt' fr' ln' : Nat → Int32), zp_Nu Rn g Ln pn ∧ r = nI pn ∧ u = (nI Ln, nI Rn, my, mt', fr', ln', wy)) := by
  refine zmet_i RX0 (by decide) rfl (Nat.le_of_ble_eq_true rfl) ?_
  intro p e s m args below meth c A Q ls S hA w hl hret
  have hl : lv_has ls 1 [(0, .ref (a 0))] := hl
  have w : zW D (zt_0 ca) A s.heap s (zw_0 a ca (nI Ln) (nI Rn) my mt fr ln wy) s.heap [] := w
  refine lv_aload_n S.1 S.2.1 dX0_watchers_0 rfl (lv_at hl 0 rfl) ?_
  refine zcall_i (tyc := zt_0 ca) (tyr := []) (wf := zf_0 a ca) (wr := []) (u := (nI Ln, nI Rn, my, mt, fr, ln, wy)) (As := []) (rest := []) S hA w (ct_most0 l D a ca Ln Rn g my mt fr ln wy hL hR hg hlt) (cwV 0 S.2.2.2.2 (lw_V q70 q55 q56 q4 q57) rfl rfl rfl (by decide +kernel) ⟨by decide, by decide⟩) (va_recv (ci := 0) (q0 := 0) w.1 w.2.1 rfl rfl) rfl hl.1 rfl (Nat.le_of_ble_eq_true rfl) ⟨Nat.zero_le _, Nat.zero_le _⟩ dX0_watchers_1 (fun r u H locs hp w => ?_)
  obtain ⟨pn, mt', fr', ln', hN, rfl, rfl⟩ := hp
  have w : zW D (zt_0 ca) A s.heap s (zw_0 a ca (nI Ln) (nI Rn) my mt' fr' ln' wy) H locs := w
  exact hret H locs 4 ls (nI Ln, nI Rn, my, mt', fr', ln', wy) _ w ⟨pn, mt', fr', ln', hN, rfl, rfl⟩ rfl dX0_watchers_4
set_option maxHeartbeats 4000000 in
set_option maxRecDepth 100000 in
theorem ct_lack0 (l : Launch) (D : va_G) (a : Nat → Nat) (ca : Nat → ClassId) (Ln Rn : Nat) (g : Nat → Nat) (my mt fr ln : Nat → Int32) (wy : Nat → Int64) (hL : 0 < Ln ∧ Ln ≤ 8) (hR : 0 < Rn ∧ Rn ≤ 8) (hg : zm_g g my) (hlt : ∀ i, g i < 2 ^ Rn) : zCi l yX0_lack cX0_lack 1 .int (zr 3 73) D (zf_0 a ca) (zt_0 ca) [.ref (a 0)] (nI Ln, nI Rn, my, mt, fr, ln, wy) (fun r u => ∃ (pn : Nat) (mt' fr' ln' : Nat → Int32), zp_Nu Rn g Ln pn ∧ r = nI (Ln - pn) ∧ u = (nI Ln, nI Rn, my, mt', fr', ln', wy)) := by
  refine zmet_i RX0 (by decide) rfl (Nat.le_of_ble_eq_true rfl) ?_
  intro p e s m args below meth c A Q ls S hA w hl hret
  have hl : lv_has ls 1 [(0, .ref (a 0))] := hl
  have w : zW D (zt_0 ca) A s.heap s (zw_0 a ca (nI Ln) (nI Rn) my mt fr ln wy) s.heap [] := w
  refine lv_aload_n S.1 S.2.1 dX0_lack_0 rfl (lv_at hl 0 rfl) ?_
  refine g0_lf S w dX0_lack_1 ?_
  refine lv_aload_n S.1 S.2.1 dX0_lack_4 rfl (lv_at hl 0 rfl) ?_
  refine zcall_i (tyc := zt_0 ca) (tyr := []) (wf := zf_0 a ca) (wr := []) (u := (nI Ln, nI Rn, my, mt, fr, ln, wy)) (As := []) (rest := [.int (nI Ln)]) S hA w (ct_most0 l D a ca Ln Rn g my mt fr ln wy hL hR hg hlt) (cwV 0 S.2.2.2.2 (lw_V q70 q55 q56 q4 q57) rfl rfl rfl (by decide +kernel) ⟨by decide, by decide⟩) (va_recv (ci := 0) (q0 := 0) w.1 w.2.1 rfl rfl) rfl hl.1 rfl (Nat.le_of_ble_eq_true rfl) ⟨Nat.zero_le _, Nat.zero_le _⟩ dX0_lack_5 (fun r u H locs hp w => ?_)
  obtain ⟨pn, mt', fr', ln', hN, rfl, rfl⟩ := hp
  have w : zW D (zt_0 ca) A s.heap s (zw_0 a ca (nI Ln) (nI Rn) my mt' fr' ln' wy) H locs := w
  refine zm_isub S ((zp_Nu_le hN).1) dX0_lack_8 ?_
  exact hret H locs 9 ls (nI Ln, nI Rn, my, mt', fr', ln', wy) _ w ⟨pn, mt', fr', ln', hN, rfl, rfl⟩ rfl dX0_lack_9
end
section
/-! counting down, and MateDesk: full -/
def zm_d (t : Nat) : Int32 := nI t + Int32.ofInt (-1)
theorem zm_dd (i : Nat) : zm_d (i + 1) = nI i := zm_dec i
theorem zm_ds (t : Nat) : nI t - nI 1 = zm_d t := by
  rw [Int32.sub_eq_add_neg]
  rfl
theorem zm_dp {t : Nat} (h : 0 < t) : nI t + Int32.ofInt (-1) = nI (t - 1) := by
  obtain ⟨i, rfl⟩ : ∃ i, t = i + 1 := ⟨t - 1, by omega⟩
  exact zm_dec i
theorem zm_d_lt {t : Nat} (h : t < 2 ^ 31) : zm_d t < 0 ↔ t = 0 := by
  cases t with
  | zero => exact ⟨fun _ => rfl, fun _ => by decide⟩
  | succ i =>
    rw [zm_dd]
    exact ⟨fun h2 => absurd h2 (nI_pos (by omega)), fun h2 => absurd h2 (by omega)⟩
theorem zl_0 (x : Int64) : x + 0 = x := Int64.add_zero x
section ZD
variable {p : Program} {l : Launch} {e : Env} {R : Room} {s : State} {m : MethodId} {args : Array Value} {below : List Frame} {meth : Method} {c : Code} {cells slots : Nat} {Q : State → Prop}
variable {D : va_G} {A : Nat → Prop} {H0 : Heap} {a : Nat → Nat} {ca : Nat → ClassId}
variable {H : Heap} {locs : List Loc} {cc : ByteArray} {pc nL : Nat} {ls : Array Slot} {rest : List Value} {own : String}
theorem zm_ifltd (S : CallFix p m c cc nL s args lw_all own) {t : Nat} {off : Int} {tgt : Nat} (hx : t < 2 ^ 31) (d : decode cc pc = .ok (.ifCond .lt off, 3)) (ht : (pc : Int) + off = (tgt : Int)) (kt : t = 0 → W p l e R s m args below meth c H locs cells slots Q (F0 m tgt ls rest)) (kf : 0 < t → W p l e R s m args below meth c H locs cells slots Q (F0 m (pc + 3) ls rest)) : W p l e R s m args below meth c H locs cells slots Q (F0 m pc ls (.int (zm_d t) :: rest)) := lv_if_lt S.1 S.2.1 d ht (fun h => kt ((zm_d_lt hx).mp h)) (fun h => kf (Nat.pos_of_ne_zero (fun h2 => h ((zm_d_lt hx).mpr h2))))
end ZD
section X0e
variable {p : Program} {l : Launch} {e : Env} {R : Room} {s : State} {m : MethodId} {args : Array Value} {below : List Frame} {meth : Method} {c : Code} {cells slots : Nat} {Q : State → Prop}
variable {D : va_G} {A : Nat → Prop} {H0 : Heap} {a : Nat → Nat} {ca : Nat → ClassId}
variable {Ln Rn : Nat} {g : Nat → Nat} {my mt fr ln : Nat → Int32} {wy : Nat → Int64}
set_option maxHeartbeats 4000000 in
set_option maxRecDepth 100000 in
theorem lp0_fA (S : CallFix p m c cX0_full 7 s args lw_all RX0) (hR : Rn ≤ 8) (kk : ∀ (wy : Nat → Int64) (H : Heap) (locs : List Loc) (ls : Array Slot), (∀ j, j < 2 ^ Rn → wy j = zp_F Rn g 0 j) → zW D (zt_0 ca) A H0 s (zw_0 a ca (nI Ln) (nI Rn) my mt fr ln wy) H locs → lv_has ls 7 [(0, .ref (a 0)), (1, .int (nI (2 ^ Rn)))] → W p l e R s m args below meth c H locs cells slots Q (F0 m 35 ls [])) : ∀ (n i : Nat) (wy : Nat → Int64), 2 ^ Rn + 1 ≤ i + n → i ≤ 2 ^ Rn → (∀ j, j < i → wy j = zp_F Rn g 0 j) → ∀ (H : Heap) (locs : List Loc) (ls : Array Slot), zW D (zt_0 ca) A H0 s (zw_0 a ca (nI Ln) (nI Rn) my mt fr ln wy) H locs → lv_has ls 7 [(0, .ref (a 0)), (1, .int (nI (2 ^ Rn))), (2, .int (nI i))] → W p l e R s m args below meth c H locs cells slots Q (F0 m 9 ls []) := by
  have hp := zp_pow hR
  intro n
  induction n with
  | zero =>
    intro i wy h1 h2
    exact absurd h1 (by omega)
  | succ n ih =>
    intro i wy h1 h2 h3 H locs ls w hl
    refine lv_iload_n S.1 S.2.1 dX0_full_9 rfl (lv_at hl 2 rfl) ?_
    refine lv_iload_n S.1 S.2.1 dX0_full_10 rfl (lv_at hl 1 rfl) ?_
    refine zm_ge S (tgt := 35) (by omega) (by omega) dX0_full_11 (by decide) (fun h => ?_) (fun h => ?_)
    · exact kk wy H locs ls (fun j hj => h3 j (by omega)) w (lv_sub hl [0, 1] rfl)
    · refine lv_aload_n S.1 S.2.1 dX0_full_14 rfl (lv_at hl 0 rfl) ?_
      refine g0_wy S w dX0_full_15 ?_
      refine lv_iload_n S.1 S.2.1 dX0_full_18 rfl (lv_at hl 2 rfl) ?_
      refine lv_iload_n S.1 S.2.1 dX0_full_19 rfl (lv_at hl 2 rfl) ?_
      refine zm_ifne S (tgt := 27) (by omega) dX0_full_20 (by decide) (fun h4 => ?_) (fun h4 => ?_)
      · refine lv_lconst (v := 0) S.1 S.2.1 dX0_full_27 (by decide) ?_
        refine st0_wy S w (by omega) dX0_full_28 (fun H locs w => ?_)
        refine lv_iinc (v := nI (i + 1)) (lv' := [(2, .int (nI (i + 1))), (0, .ref (a 0)), (1, .int (nI (2 ^ Rn)))]) S.1 S.2.1 dX0_full_29 hl (k := 2) rfl (zm_inc _) (by decide) rfl (fun ls hl => ?_)
        refine lv_goto (tgt := 9) S.1 S.2.1 dX0_full_32 (by decide) ?_
        refine ih (i + 1) (vp_updL wy i 0) (by omega) (by omega) (fun j hj => ?_) H locs ls w (lv_sub hl [1, 2, 0] rfl)
        by_cases e : j = i
        · rw [e, pk_uLs]
          exact (show zp_F Rn g 0 i = 0 from if_neg h4).symm
        · rw [pk_uLn e]
          exact h3 j (by omega)
      · refine lv_lconst (v := 1) S.1 S.2.1 dX0_full_23 (by decide) ?_
        refine lv_goto (tgt := 28) S.1 S.2.1 dX0_full_24 (by decide) ?_
        refine st0_wy S w (by omega) dX0_full_28 (fun H locs w => ?_)
        refine lv_iinc (v := nI (i + 1)) (lv' := [(2, .int (nI (i + 1))), (0, .ref (a 0)), (1, .int (nI (2 ^ Rn)))]) S.1 S.2.1 dX0_full_29 hl (k := 2) rfl (zm_inc _) (by decide) rfl (fun ls hl => ?_)
        refine lv_goto (tgt := 9) S.1 S.2.1 dX0_full_32 (by decide) ?_
        refine ih (i + 1) (vp_updL wy i 1) (by omega) (by omega) (fun j hj => ?_) H locs ls w (lv_sub hl [1, 2, 0] rfl)
        by_cases e : j = i
        · rw [e, pk_uLs]
          exact (show zp_F Rn g 0 i = 1 from if_pos h4).symm
        · rw [pk_uLn e]
          exact h3 j (by omega)
set_option maxHeartbeats 4000000 in
set_option maxRecDepth 100000 in
theorem lp0_fD (S : CallFix p m c cX0_full 7 s args lw_all RX0) {x i : Nat} {H : Heap} {locs : List Loc} (hR : Rn ≤ 8) (hx : x < 8) (hi : i < 2 ^ Rn) (hg : zm_g g my) (hwy : ∀ j, j < i → wy j = zp_F Rn g x j) (w : zW D (zt_0 ca) A H0 s (zw_0 a ca (nI Ln) (nI Rn) my mt fr ln wy) H locs) (kk : ∀ (sm : Int64) (ls : Array Slot), sm = zp_S Rn (fun b => if (i.testBit b && (g x).testBit b) = true then zp_F Rn g x (zp_clr i b) else 0) → lv_has ls 7 [(0, .ref (a 0)), (1, .int (nI (2 ^ Rn))), (2, .int (nI x)), (3, .int (nI i)), (4, .long sm)] → W p l e R s m args below meth c H locs cells slots Q (F0 m 107 ls [])) : ∀ (n b : Nat) (sm : Int64), Rn + 1 ≤ b + n → b ≤ Rn → sm = zp_S b (fun b => if (i.testBit b && (g x).testBit b) = true then zp_F Rn g x (zp_clr i b) else 0) → ∀ (ls : Array Slot), lv_has ls 7 [(0, .ref (a 0)), (1, .int (nI (2 ^ Rn))), (2, .int (nI x)), (3, .int (nI i)), (4, .long sm), (6, .int (nI b))] → W p l e R s m args below meth c H locs cells slots Q (F0 m 59 ls []) := by
  have hp := zp_pow hR
  intro n
  induction n with
  | zero =>
    intro b sm h1 h2
    exact absurd h1 (by omega)
  | succ n ih =>
    intro b sm h1 h2 h3 ls hl
    refine lv_iload S.1 S.2.1 dX0_full_59 (lv_at hl 5 rfl) ?_
    refine lv_aload_n S.1 S.2.1 dX0_full_61 rfl (lv_at hl 0 rfl) ?_
    refine g0_rt S w dX0_full_62 ?_
    refine zm_ge S (tgt := 107) (by omega) (by omega) dX0_full_65 (by decide) (fun h => ?_) (fun h => ?_)
    · have e : b = Rn := by omega
      subst e
      exact kk sm ls h3 (lv_sub hl [0, 1, 2, 3, 4] rfl)
    · refine lv_iload_n S.1 S.2.1 dX0_full_68 rfl (lv_at hl 3 rfl) ?_
      refine lv_aload_n S.1 S.2.1 dX0_full_69 rfl (lv_at hl 0 rfl) ?_
      refine g0_my S w dX0_full_70 ?_
      refine lv_iload_n S.1 S.2.1 dX0_full_73 rfl (lv_at hl 2 rfl) ?_
      refine ld0_my (v := nI (g x)) S w (by omega) (hg _ hx) dX0_full_74 ?_
      refine zm_iand S dX0_full_75 ?_
      refine lv_iload S.1 S.2.1 dX0_full_76 (lv_at hl 5 rfl) ?_
      refine zm_bit S (Nat.lt_of_le_of_lt Nat.and_le_left (by omega)) (by omega) dX0_full_78 dX0_full_79 dX0_full_80 ?_
      refine lv_iconst (v := nI 1) S.1 S.2.1 dX0_full_81 (by decide) ?_
      refine zm_bne S (tgt := 101) dX0_full_82 (by decide) (fun h4 => ?_) (fun h4 => ?_)
      · rw [Nat.testBit_and] at h4
        refine lv_iinc (v := nI (b + 1)) (lv' := [(6, .int (nI (b + 1))), (0, .ref (a 0)), (1, .int (nI (2 ^ Rn))), (2, .int (nI x)), (3, .int (nI i)), (4, .long sm)]) S.1 S.2.1 dX0_full_101 hl (k := 5) rfl (zm_inc _) (by decide) rfl (fun ls hl => ?_)
        refine lv_goto (tgt := 59) S.1 S.2.1 dX0_full_104 (by decide) ?_
        refine ih (b + 1) sm (by omega) (by omega) ?_ ls (lv_sub hl [1, 2, 3, 4, 5, 0] rfl)
        simp only [zp_S]
        rw [h4, ← h3]
        exact (zl_0 sm).symm
      · rw [Nat.testBit_and] at h4
        have hb : i.testBit b = true := by
          cases hq : i.testBit b with
          | true => rfl
          | false => rw [hq] at h4; cases h4
        have hxo := zp_clr_xor i (by omega) b (by omega) hb
        have hcl := zp_clr_lt i (by omega) b (by omega) hb
        refine lv_lload S.1 S.2.1 dX0_full_85 (lv_at hl 4 rfl) ?_
        refine lv_aload_n S.1 S.2.1 dX0_full_87 rfl (lv_at hl 0 rfl) ?_
        refine g0_wy S w dX0_full_88 ?_
        refine lv_iload_n S.1 S.2.1 dX0_full_91 rfl (lv_at hl 3 rfl) ?_
        refine lv_iconst (v := nI 1) S.1 S.2.1 dX0_full_92 (by decide) ?_
        refine lv_iload S.1 S.2.1 dX0_full_93 (lv_at hl 5 rfl) ?_
        refine zm_shl S (by omega) dX0_full_95 ?_
        refine zm_ixor S dX0_full_96 ?_
        refine zm_top (congrArg nI hxo) ?_
        refine ld0_wy (v := zp_F Rn g x (zp_clr i b)) S w (by omega) (hwy _ hcl) dX0_full_97 ?_
        refine lv_ladd S.1 S.2.1 dX0_full_98 ?_
        refine lv_lstore (lv' := [(4, .long (sm + zp_F Rn g x (zp_clr i b))), (0, .ref (a 0)), (1, .int (nI (2 ^ Rn))), (2, .int (nI x)), (3, .int (nI i)), (6, .int (nI b))]) S.1 S.2.1 dX0_full_99 hl (by decide) rfl (fun ls hl => ?_)
        refine lv_iinc (v := nI (b + 1)) (lv' := [(6, .int (nI (b + 1))), (4, .long (sm + zp_F Rn g x (zp_clr i b))), (0, .ref (a 0)), (1, .int (nI (2 ^ Rn))), (2, .int (nI x)), (3, .int (nI i))]) S.1 S.2.1 dX0_full_101 hl (k := 5) rfl (zm_inc _) (by decide) rfl (fun ls hl => ?_)
        refine lv_goto (tgt := 59) S.1 S.2.1 dX0_full_104 (by decide) ?_
        refine ih (b + 1) (sm + zp_F Rn g x (zp_clr i b)) (by omega) (by omega) ?_ ls (lv_sub hl [2, 3, 4, 5, 1, 0] rfl)
        simp only [zp_S]
        rw [h4, ← h3]
        rfl
set_option maxHeartbeats 4000000 in
set_option maxRecDepth 100000 in
theorem lp0_fC (S : CallFix p m c cX0_full 7 s args lw_all RX0) {x : Nat} (hR : Rn ≤ 8) (hx : x < 8) (hg : zm_g g my) (kk : ∀ (wy : Nat → Int64) (H : Heap) (locs : List Loc) (ls : Array Slot), (∀ j, j < 2 ^ Rn → wy j = zp_F Rn g (x + 1) j) → zW D (zt_0 ca) A H0 s (zw_0 a ca (nI Ln) (nI Rn) my mt fr ln wy) H locs → lv_has ls 7 [(0, .ref (a 0)), (1, .int (nI (2 ^ Rn))), (2, .int (nI x))] → W p l e R s m args below meth c H locs cells slots Q (F0 m 121 ls [])) : ∀ (t : Nat) (wy : Nat → Int64), t ≤ 2 ^ Rn → (∀ j, j < 2 ^ Rn → wy j = if t ≤ j then zp_F Rn g (x + 1) j else zp_F Rn g x j) → ∀ (H : Heap) (locs : List Loc) (ls : Array Slot), zW D (zt_0 ca) A H0 s (zw_0 a ca (nI Ln) (nI Rn) my mt fr ln wy) H locs → lv_has ls 7 [(0, .ref (a 0)), (1, .int (nI (2 ^ Rn))), (2, .int (nI x)), (3, .int (zm_d t))] → W p l e R s m args below meth c H locs cells slots Q (F0 m 49 ls []) := by
  have hp := zp_pow hR
  intro t
  induction t with
  | zero =>
    intro wy h2 h3 H locs ls w hl
    refine lv_iload_n S.1 S.2.1 dX0_full_49 rfl (lv_at hl 3 rfl) ?_
    refine zm_ifltd S (tgt := 121) (by decide) dX0_full_50 (by decide) (fun h => ?_) (fun h => ?_)
    · exact kk wy H locs ls (fun j hj => by rw [h3 j hj, if_pos (Nat.zero_le j)]) w (lv_sub hl [0, 1, 2] rfl)
    · exact absurd h (by omega)
  | succ i ih =>
    intro wy h2 h3 H locs ls w hl
    refine lv_iload_n S.1 S.2.1 dX0_full_49 rfl (lv_at hl 3 rfl) ?_
    refine zm_ifltd S (tgt := 121) (by omega) dX0_full_50 (by decide) (fun h => ?_) (fun h => ?_)
    · exact absurd h (by omega)
    · rw [zm_dd] at hl
      refine lv_lconst (v := 0) S.1 S.2.1 dX0_full_53 (by decide) ?_
      refine lv_lstore (lv' := [(4, .long 0), (0, .ref (a 0)), (1, .int (nI (2 ^ Rn))), (2, .int (nI x)), (3, .int (nI i))]) S.1 S.2.1 dX0_full_54 hl (by decide) rfl (fun ls hl => ?_)
      refine lv_iconst (v := nI 0) S.1 S.2.1 dX0_full_56 (by decide) ?_
      refine lv_istore (lv' := [(6, .int (nI 0)), (4, .long 0), (0, .ref (a 0)), (1, .int (nI (2 ^ Rn))), (2, .int (nI x)), (3, .int (nI i))]) S.1 S.2.1 dX0_full_57 hl (by decide) rfl (fun ls hl => ?_)
      refine lp0_fD S hR hx (by omega) hg (fun j hj => by rw [h3 j (by omega), if_neg (by omega)]) w (fun sm ls hsm hl => ?_) (Rn + 1) 0 0 (by omega) (by omega) rfl ls (lv_sub hl [2, 3, 4, 5, 1, 0] rfl)
      refine lv_aload_n S.1 S.2.1 dX0_full_107 rfl (lv_at hl 0 rfl) ?_
      refine g0_wy S w dX0_full_108 ?_
      refine lv_iload_n S.1 S.2.1 dX0_full_111 rfl (lv_at hl 3 rfl) ?_
      refine lv_lload S.1 S.2.1 dX0_full_112 (lv_at hl 4 rfl) ?_
      refine st0_wy S w (by omega) dX0_full_114 (fun H locs w => ?_)
      refine lv_iinc (v := zm_d i) (lv' := [(3, .int (zm_d i)), (0, .ref (a 0)), (1, .int (nI (2 ^ Rn))), (2, .int (nI x)), (4, .long sm)]) S.1 S.2.1 dX0_full_115 hl (k := 3) rfl (rfl) (by decide) rfl (fun ls hl => ?_)
      refine lv_goto (tgt := 49) S.1 S.2.1 dX0_full_118 (by decide) ?_
      refine ih (vp_updL wy i sm) (by omega) (fun j hj => ?_) H locs ls w (lv_sub hl [1, 2, 3, 0] rfl)
      by_cases e : j = i
      · rw [e, pk_uLs, if_pos (Nat.le_refl i), hsm]
        rfl
      · rw [pk_uLn e, h3 j hj]
        by_cases e2 : i ≤ j
        · rw [if_pos e2, if_pos (by omega)]
        · rw [if_neg e2, if_neg (by omega)]
set_option maxHeartbeats 4000000 in
set_option maxRecDepth 100000 in
theorem lp0_fB (S : CallFix p m c cX0_full 7 s args lw_all RX0) (hL : Ln ≤ 8) (hR : Rn ≤ 8) (hg : zm_g g my) (kk : ∀ (wy : Nat → Int64) (H : Heap) (locs : List Loc) (ls : Array Slot), (∀ j, j < 2 ^ Rn → wy j = zp_F Rn g Ln j) → zW D (zt_0 ca) A H0 s (zw_0 a ca (nI Ln) (nI Rn) my mt fr ln wy) H locs → lv_has ls 7 [(0, .ref (a 0)), (1, .int (nI (2 ^ Rn)))] → W p l e R s m args below meth c H locs cells slots Q (F0 m 127 ls [])) : ∀ (n x : Nat) (wy : Nat → Int64), Ln + 1 ≤ x + n → x ≤ Ln → (∀ j, j < 2 ^ Rn → wy j = zp_F Rn g x j) → ∀ (H : Heap) (locs : List Loc) (ls : Array Slot), zW D (zt_0 ca) A H0 s (zw_0 a ca (nI Ln) (nI Rn) my mt fr ln wy) H locs → lv_has ls 7 [(0, .ref (a 0)), (1, .int (nI (2 ^ Rn))), (2, .int (nI x))] → W p l e R s m args below meth c H locs cells slots Q (F0 m 37 ls []) := by
  have hp := zp_pow hR
  intro n
  induction n with
  | zero =>
    intro x wy h1 h2
    exact absurd h1 (by omega)
  | succ n ih =>
    intro x wy h1 h2 h3 H locs ls w hl
    refine lv_iload_n S.1 S.2.1 dX0_full_37 rfl (lv_at hl 2 rfl) ?_
    refine lv_aload_n S.1 S.2.1 dX0_full_38 rfl (lv_at hl 0 rfl) ?_
    refine g0_lf S w dX0_full_39 ?_
    refine zm_ge S (tgt := 127) (by omega) (by omega) dX0_full_42 (by decide) (fun h => ?_) (fun h => ?_)
    · have e : x = Ln := by omega
      subst e
      exact kk wy H locs ls h3 w (lv_sub hl [0, 1] rfl)
    · refine lv_iload_n S.1 S.2.1 dX0_full_45 rfl (lv_at hl 1 rfl) ?_
      refine lv_iconst (v := nI 1) S.1 S.2.1 dX0_full_46 (by decide) ?_
      refine lv_isub S.1 S.2.1 dX0_full_47 ?_
      refine zm_top (zm_ds _) ?_
      refine lv_istore_n (lv' := [(3, .int (zm_d (2 ^ Rn))), (0, .ref (a 0)), (1, .int (nI (2 ^ Rn))), (2, .int (nI x))]) S.1 S.2.1 dX0_full_48 rfl hl (by decide) rfl (fun ls hl => ?_)
      refine lp0_fC S hR (by omega) hg (fun wy H locs ls h4 w hl => ?_) (2 ^ Rn) wy (Nat.le_refl _) (fun j hj => by rw [h3 j hj, if_neg (by omega)]) H locs ls w (lv_sub hl [1, 2, 3, 0] rfl)
      refine lv_iinc (v := nI (x + 1)) (lv' := [(2, .int (nI (x + 1))), (0, .ref (a 0)), (1, .int (nI (2 ^ Rn)))]) S.1 S.2.1 dX0_full_121 hl (k := 2) rfl (zm_inc _) (by decide) rfl (fun ls hl => ?_)
      refine lv_goto (tgt := 37) S.1 S.2.1 dX0_full_124 (by decide) ?_
      exact ih (x + 1) wy (by omega) (by omega) h4 H locs ls w (lv_sub hl [1, 2, 0] rfl)
set_option maxHeartbeats 4000000 in
set_option maxRecDepth 100000 in
theorem lp0_fE (S : CallFix p m c cX0_full 7 s args lw_all RX0) {H : Heap} {locs : List Loc} (hR : Rn ≤ 8) (hwy : ∀ j, j < 2 ^ Rn → wy j = zp_F Rn g Ln j) (w : zW D (zt_0 ca) A H0 s (zw_0 a ca (nI Ln) (nI Rn) my mt fr ln wy) H locs) (kk : ∀ (ls : Array Slot), W p l e R s m args below meth c H locs cells slots Q (F0 m 155 ls [.long (zp_full Rn g Ln)])) : ∀ (n i : Nat) (sm : Int64), 2 ^ Rn + 1 ≤ i + n → i ≤ 2 ^ Rn → sm = zp_S i (zp_F Rn g Ln) → ∀ (ls : Array Slot), lv_has ls 7 [(0, .ref (a 0)), (1, .int (nI (2 ^ Rn))), (2, .long sm), (4, .int (nI i))] → W p l e R s m args below meth c H locs cells slots Q (F0 m 132 ls []) := by
  have hp := zp_pow hR
  intro n
  induction n with
  | zero =>
    intro i sm h1 h2
    exact absurd h1 (by omega)
  | succ n ih =>
    intro i sm h1 h2 h3 ls hl
    refine lv_iload S.1 S.2.1 dX0_full_132 (lv_at hl 3 rfl) ?_
    refine lv_iload_n S.1 S.2.1 dX0_full_134 rfl (lv_at hl 1 rfl) ?_
    refine zm_ge S (tgt := 154) (by omega) (by omega) dX0_full_135 (by decide) (fun h => ?_) (fun h => ?_)
    · have e : i = 2 ^ Rn := by omega
      subst e
      refine lv_lload_n S.1 S.2.1 dX0_full_154 rfl (lv_at hl 2 rfl) ?_
      refine zm_topl (h3) ?_
      exact kk ls
    · refine lv_lload_n S.1 S.2.1 dX0_full_138 rfl (lv_at hl 2 rfl) ?_
      refine lv_aload_n S.1 S.2.1 dX0_full_139 rfl (lv_at hl 0 rfl) ?_
      refine g0_wy S w dX0_full_140 ?_
      refine lv_iload S.1 S.2.1 dX0_full_143 (lv_at hl 3 rfl) ?_
      refine ld0_wy (v := zp_F Rn g Ln i) S w (by omega) (hwy i h) dX0_full_145 ?_
      refine lv_ladd S.1 S.2.1 dX0_full_146 ?_
      refine lv_lstore_n (lv' := [(2, .long (sm + zp_F Rn g Ln i)), (0, .ref (a 0)), (1, .int (nI (2 ^ Rn))), (4, .int (nI i))]) S.1 S.2.1 dX0_full_147 rfl hl (by decide) rfl (fun ls hl => ?_)
      refine lv_iinc (v := nI (i + 1)) (lv' := [(4, .int (nI (i + 1))), (2, .long (sm + zp_F Rn g Ln i)), (0, .ref (a 0)), (1, .int (nI (2 ^ Rn)))]) S.1 S.2.1 dX0_full_148 hl (k := 3) rfl (zm_inc _) (by decide) rfl (fun ls hl => ?_)
      refine lv_goto (tgt := 132) S.1 S.2.1 dX0_full_151 (by decide) ?_
      refine ih (i + 1) (sm + zp_F Rn g Ln i) (by omega) (by omega) ?_ ls (lv_sub hl [2, 3, 1, 0] rfl)
      rw [h3]
      rfl
end X0e
set_option maxHeartbeats 4000000 in
set_option maxRecDepth 100000 in
theorem ct_full0 (l : Launch) (D : va_G) (a : Nat → Nat) (ca : Nat → ClassId) (Ln Rn : Nat) (g : Nat → Nat) (my mt fr ln : Nat → Int32) (wy : Nat → Int64) (hL : 0 < Ln ∧ Ln ≤ 8) (hR : 0 < Rn ∧ Rn ≤ 8) (hg : zm_g g my) : zCl l yX0_full cX0_full 7 (zr 0 0) D (zf_0 a ca) (zt_0 ca) [.ref (a 0)] (nI Ln, nI Rn, my, mt, fr, ln, wy) (fun r u => ∃ wy' : Nat → Int64, r = zp_full Rn g Ln ∧ u = (nI Ln, nI Rn, my, mt, fr, ln, wy')) := by
  have hR2 := hR.2
  refine zmet_l RX0 (by decide) rfl (Nat.le_of_ble_eq_true rfl) ?_
  intro p e s m args below meth c A Q ls S hA w hl hret
  have hl : lv_has ls 7 [(0, .ref (a 0))] := hl
  have w : zW D (zt_0 ca) A s.heap s (zw_0 a ca (nI Ln) (nI Rn) my mt fr ln wy) s.heap [] := w
  refine lv_iconst (v := nI 1) S.1 S.2.1 dX0_full_0 (by decide) ?_
  refine lv_aload_n S.1 S.2.1 dX0_full_1 rfl (lv_at hl 0 rfl) ?_
  refine g0_rt S w dX0_full_2 ?_
  refine zm_shl S (by omega) dX0_full_5 ?_
  refine lv_istore_n (lv' := [(1, .int (nI (2 ^ Rn))), (0, .ref (a 0))]) S.1 S.2.1 dX0_full_6 rfl hl (by decide) rfl (fun ls hl => ?_)
  refine lv_iconst (v := nI 0) S.1 S.2.1 dX0_full_7 (by decide) ?_
  refine lv_istore_n (lv' := [(2, .int (nI 0)), (1, .int (nI (2 ^ Rn))), (0, .ref (a 0))]) S.1 S.2.1 dX0_full_8 rfl hl (by decide) rfl (fun ls hl => ?_)
  refine lp0_fA (g := g) S hR.2 (fun wy H locs ls h1 w hl => ?_) (2 ^ Rn + 1) 0 wy (by omega) (Nat.zero_le _) (fun j hj => absurd hj (by omega)) _ _ ls w (lv_sub hl [2, 1, 0] rfl)
  refine lv_iconst (v := nI 0) S.1 S.2.1 dX0_full_35 (by decide) ?_
  refine lv_istore_n (lv' := [(2, .int (nI 0)), (0, .ref (a 0)), (1, .int (nI (2 ^ Rn)))]) S.1 S.2.1 dX0_full_36 rfl hl (by decide) rfl (fun ls hl => ?_)
  refine lp0_fB S hL.2 hR.2 hg (fun wy H locs ls h2 w hl => ?_) (Ln + 1) 0 wy (by omega) (Nat.zero_le _) h1 H locs ls w (lv_sub hl [1, 2, 0] rfl)
  refine lv_lconst (v := 0) S.1 S.2.1 dX0_full_127 (by decide) ?_
  refine lv_lstore_n (lv' := [(2, .long 0), (0, .ref (a 0)), (1, .int (nI (2 ^ Rn)))]) S.1 S.2.1 dX0_full_128 rfl hl (by decide) rfl (fun ls hl => ?_)
  refine lv_iconst (v := nI 0) S.1 S.2.1 dX0_full_129 (by decide) ?_
  refine lv_istore (lv' := [(4, .int (nI 0)), (2, .long 0), (0, .ref (a 0)), (1, .int (nI (2 ^ Rn)))]) S.1 S.2.1 dX0_full_130 hl (by decide) rfl (fun ls hl => ?_)
  exact lp0_fE S hR.2 h2 w (fun ls => hret H locs 155 ls (nI Ln, nI Rn, my, mt, fr, ln, wy) _ w ⟨wy, rfl, rfl⟩ dX0_full_155) (2 ^ Rn + 1) 0 0 (by omega) (Nat.zero_le _) rfl ls (lv_sub hl [2, 3, 1, 0] rfl)
end
section
/-! MateDeskModel: count, sizes, may, not -/
section X1a
variable {p : Program} {l : Launch} {e : Env} {R : Room} {s : State} {m : MethodId} {args : Array Value} {below : List Frame} {meth : Method} {c : Code} {cells slots : Nat} {Q : State → Prop}
variable {D : va_G} {A : Nat → Prop} {H0 : Heap} {a : Nat → Nat} {ca : Nat → ClassId}
variable {ok bs : Nat → Int32} {nn mm kn pr wt lk : Int32} {wy : Nat → Int64}
set_option maxHeartbeats 4000000 in
set_option maxRecDepth 100000 in
theorem lp1_count (S : CallFix p m c cX1_count 3 s args lw_all RX1) {H : Heap} {locs : List Loc} {v : Nat} (kk : ∀ (ls : Array Slot), W p l e R s m args below meth c H locs cells slots Q (F0 m 22 ls [.int (nI (zp_pc v))])) : ∀ (n k y : Nat), y < n → y < 256 → k + zp_pc y = zp_pc v → ∀ (ls : Array Slot), lv_has ls 3 [(1, .int (nI k)), (2, .int (nI y))] → W p l e R s m args below meth c H locs cells slots Q (F0 m 4 ls []) := by
  intro n
  induction n with
  | zero =>
    intro k y h1 h2
    exact absurd h1 (by omega)
  | succ n ih =>
    intro k y h1 h2 h3 ls hl
    refine lv_iload_n S.1 S.2.1 dX1_count_4 rfl (lv_at hl 1 rfl) ?_
    refine zm_ifeq S (tgt := 21) (by omega) dX1_count_5 (by decide) (fun h => ?_) (fun h => ?_)
    · have e : k = zp_pc v := by rw [h, zp_pc_0] at h3; omega
      subst e
      refine lv_iload_n S.1 S.2.1 dX1_count_21 rfl (lv_at hl 0 rfl) ?_
      exact kk ls
    · have h4 := zp_pc_and y h2 h
      refine lv_iload_n S.1 S.2.1 dX1_count_8 rfl (lv_at hl 1 rfl) ?_
      refine lv_iload_n S.1 S.2.1 dX1_count_9 rfl (lv_at hl 1 rfl) ?_
      refine lv_iconst (v := nI 1) S.1 S.2.1 dX1_count_10 (by decide) ?_
      refine zm_isub S (by omega) dX1_count_11 ?_
      refine zm_iand S dX1_count_12 ?_
      refine lv_istore_n (lv' := [(2, .int (nI (y &&& y - 1))), (1, .int (nI k))]) S.1 S.2.1 dX1_count_13 rfl hl (by decide) rfl (fun ls hl => ?_)
      refine lv_iload_n S.1 S.2.1 dX1_count_14 rfl (lv_at hl 1 rfl) ?_
      refine lv_iconst (v := nI 1) S.1 S.2.1 dX1_count_15 (by decide) ?_
      refine zm_iadd S dX1_count_16 ?_
      refine lv_istore_n (lv' := [(1, .int (nI (k + 1))), (2, .int (nI (y &&& y - 1)))]) S.1 S.2.1 dX1_count_17 rfl hl (by decide) rfl (fun ls hl => ?_)
      refine lv_goto (tgt := 4) S.1 S.2.1 dX1_count_18 (by decide) ?_
      exact ih (k + 1) (y &&& (y - 1)) (by omega) (by omega) (by omega) ls (lv_sub hl [0, 1] rfl)
end X1a
set_option maxHeartbeats 4000000 in
set_option maxRecDepth 100000 in
theorem ct_count1 (l : Launch) (D : va_G) (v : Nat) (hv : v < 256) : zCs l yX1_count cX1_count 3 (zr 0 0) D [.int (nI v)] (fun r => r = nI (zp_pc v)) := by
  refine zmet_i RX1 (by decide) rfl (Nat.le_of_ble_eq_true rfl) ?_
  intro p e s m args below meth c A Q ls S hA w hl hret
  have hl : lv_has ls 3 [(0, .int (nI v))] := hl
  refine lv_iconst (v := nI 0) S.1 S.2.1 dX1_count_0 (by decide) ?_
  refine lv_istore_n (lv' := [(1, .int (nI 0)), (0, .int (nI v))]) S.1 S.2.1 dX1_count_1 rfl hl (by decide) rfl (fun ls hl => ?_)
  refine lv_iload_n S.1 S.2.1 dX1_count_2 rfl (lv_at hl 1 rfl) ?_
  refine lv_istore_n (lv' := [(2, .int (nI v)), (1, .int (nI 0)), (0, .int (nI v))]) S.1 S.2.1 dX1_count_3 rfl hl (by decide) rfl (fun ls hl => ?_)
  exact lp1_count S (fun ls => hret _ _ 22 ls () _ w rfl rfl dX1_count_22) (v + 1) 0 v (by omega) hv (by omega) ls (lv_sub hl [1, 0] rfl)
section X1b
variable {p : Program} {l : Launch} {e : Env} {R : Room} {s : State} {m : MethodId} {args : Array Value} {below : List Frame} {meth : Method} {c : Code} {cells slots : Nat} {Q : State → Prop}
variable {D : va_G} {A : Nat → Prop} {H0 : Heap} {a : Nat → Nat} {ca : Nat → ClassId}
variable {ok bs : Nat → Int32} {nn mm kn pr wt lk : Int32} {wy : Nat → Int64}
set_option maxHeartbeats 4000000 in
set_option maxRecDepth 100000 in
theorem lp1_sizes (S : CallFix p m c cX1_sizes 4 s args lw_all RX1) (kk : ∀ (ok : Nat → Int32) (H : Heap) (locs : List Loc) (ls : Array Slot), (∀ j, j < 8 → ok j = nI 0) → zW D (zt_1 ca) A H0 s (zw_1 a ca ok nn mm bs kn pr wt lk wy) H locs → lv_has ls 4 [(0, .ref (a 0))] → W p l e R s m args below meth c H locs cells slots Q (F0 m 41 ls [])) : ∀ (n i : Nat) (ok : Nat → Int32), 9 ≤ i + n → i ≤ 8 → (∀ j, j < i → ok j = nI 0) → ∀ (H : Heap) (locs : List Loc) (ls : Array Slot), zW D (zt_1 ca) A H0 s (zw_1 a ca ok nn mm bs kn pr wt lk wy) H locs → lv_has ls 4 [(0, .ref (a 0)), (3, .int (nI i))] → W p l e R s m args below meth c H locs cells slots Q (F0 m 22 ls []) := by
  intro n
  induction n with
  | zero =>
    intro i ok h1 h2
    exact absurd h1 (by omega)
  | succ n ih =>
    intro i ok h1 h2 h3 H locs ls w hl
    refine lv_iload_n S.1 S.2.1 dX1_sizes_22 rfl (lv_at hl 1 rfl) ?_
    refine lv_bipush (v := nI 8) S.1 S.2.1 dX1_sizes_23 (by decide) ?_
    refine zm_ge S (tgt := 41) (by omega) (by decide) dX1_sizes_25 (by decide) (fun h => ?_) (fun h => ?_)
    · exact kk ok H locs ls (fun j hj => h3 j (by omega)) w (lv_sub hl [0] rfl)
    · refine lv_aload_n S.1 S.2.1 dX1_sizes_28 rfl (lv_at hl 0 rfl) ?_
      refine g1_ok S w dX1_sizes_29 ?_
      refine lv_iload_n S.1 S.2.1 dX1_sizes_32 rfl (lv_at hl 1 rfl) ?_
      refine lv_iconst (v := nI 0) S.1 S.2.1 dX1_sizes_33 (by decide) ?_
      refine st1_ok S w (by omega) dX1_sizes_34 (fun H locs w => ?_)
      refine lv_iinc (v := nI (i + 1)) (lv' := [(3, .int (nI (i + 1))), (0, .ref (a 0))]) S.1 S.2.1 dX1_sizes_35 hl (k := 1) rfl (zm_inc _) (by decide) rfl (fun ls hl => ?_)
      refine lv_goto (tgt := 22) S.1 S.2.1 dX1_sizes_38 (by decide) ?_
      refine ih (i + 1) (upd ok i (nI 0)) (by omega) (by omega) (fun j hj => ?_) H locs ls w (lv_sub hl [1, 0] rfl)
      by_cases e : j = i
      · rw [e, pk_us]
      · rw [pk_un e]
        exact h3 j (by omega)
end X1b
set_option maxHeartbeats 4000000 in
set_option maxRecDepth 100000 in
theorem ct_sizes1 (l : Launch) (D : va_G) (a : Nat → Nat) (ca : Nat → ClassId) (x y : Int32) (ok : Nat → Int32) (nn mm : Int32) (bs : Nat → Int32) (kn pr wt lk : Int32) (wy : Nat → Int64) : zCv l yX1_sizes cX1_sizes 4 (zr 0 0) D (zf_1 a ca) (zt_1 ca) [.ref (a 0), .int x, .int y] (ok, nn, mm, bs, kn, pr, wt, lk, wy) (fun u => ∃ ok', (∀ j, j < 8 → ok' j = nI 0) ∧ u = (ok', nI (zp_sz x), nI (zp_sz y), bs, nI 0, pr, wt, lk, wy)) := by
  refine zmet_v RX1 (by decide) rfl (Nat.le_of_ble_eq_true rfl) ?_
  intro p e s m args below meth c A Q ls S hA w hl hret
  have hl : lv_has ls 4 [(0, .ref (a 0)), (1, .int x), (2, .int y)] := hl
  have w : zW D (zt_1 ca) A s.heap s (zw_1 a ca ok nn mm bs kn pr wt lk wy) s.heap [] := w
  refine lv_aload_n S.1 S.2.1 dX1_sizes_0 rfl (lv_at hl 0 rfl) ?_
  refine lv_iconst (v := nI 1) S.1 S.2.1 dX1_sizes_1 (by decide) ?_
  refine lv_iload_n S.1 S.2.1 dX1_sizes_2 rfl (lv_at hl 1 rfl) ?_
  refine lv_bipush (v := nI 7) S.1 S.2.1 dX1_sizes_3 (by decide) ?_
  refine lv_iand S.1 S.2.1 dX1_sizes_5 ?_
  refine zm_top (pk_and x 3 (by decide)) ?_
  refine zm_iadd S dX1_sizes_6 ?_
  refine p1_nn S w dX1_sizes_7 (fun H locs w => ?_)
  refine lv_aload_n S.1 S.2.1 dX1_sizes_10 rfl (lv_at hl 0 rfl) ?_
  refine lv_iconst (v := nI 1) S.1 S.2.1 dX1_sizes_11 (by decide) ?_
  refine lv_iload_n S.1 S.2.1 dX1_sizes_12 rfl (lv_at hl 2 rfl) ?_
  refine lv_bipush (v := nI 7) S.1 S.2.1 dX1_sizes_13 (by decide) ?_
  refine lv_iand S.1 S.2.1 dX1_sizes_15 ?_
  refine zm_top (pk_and y 3 (by decide)) ?_
  refine zm_iadd S dX1_sizes_16 ?_
  refine p1_mm S w dX1_sizes_17 (fun H locs w => ?_)
  refine lv_iconst (v := nI 0) S.1 S.2.1 dX1_sizes_20 (by decide) ?_
  refine lv_istore_n (lv' := [(3, .int (nI 0)), (0, .ref (a 0)), (1, .int x), (2, .int y)]) S.1 S.2.1 dX1_sizes_21 rfl hl (by decide) rfl (fun ls hl => ?_)
  refine lp1_sizes S (fun ok' H locs ls h w hl => ?_) 9 0 ok (by omega) (by omega) (fun j hj => absurd hj (by omega)) _ _ ls w (lv_sub hl [1, 0] rfl)
  refine lv_aload_n S.1 S.2.1 dX1_sizes_41 rfl (lv_at hl 0 rfl) ?_
  refine lv_iconst (v := nI 0) S.1 S.2.1 dX1_sizes_42 (by decide) ?_
  refine p1_kn S w (by decide) (by decide) dX1_sizes_43 (fun H locs w => ?_)
  exact hret H locs 46 ls (ok', nI (zp_sz x), nI (zp_sz y), bs, nI 0, pr, wt, lk, wy) w ⟨ok', h, rfl⟩ dX1_sizes_46
set_option maxHeartbeats 4000000 in
set_option maxRecDepth 100000 in
theorem ct_may1 (l : Launch) (D : va_G) (a : Nat → Nat) (ca : Nat → ClassId) (x y : Int32) (Ln Rn : Nat) (g : Nat → Nat) (ok bs : Nat → Int32) (kn pr wt lk : Int32) (wy : Nat → Int64) (hL : 0 < Ln ∧ Ln ≤ 8) (hR : 0 < Rn ∧ Rn ≤ 8) (hg : zm_g g ok) (hlt : ∀ i, g i < 2 ^ Rn) : zCv l yX1_may cX1_may 4 (zr 0 0) D (zf_1 a ca) (zt_1 ca) [.ref (a 0), .int x, .int y] (ok, nI Ln, nI Rn, bs, kn, pr, wt, lk, wy) (fun u => ∃ ok', zm_g (zp_u g (zp_cd x Ln) (g (zp_cd x Ln) ||| 2 ^ zp_cd y Rn)) ok' ∧ u = (ok', nI Ln, nI Rn, bs, nI 0, pr, wt, lk, wy)) := by
  refine zmet_v RX1 (by decide) rfl (Nat.le_of_ble_eq_true rfl) ?_
  intro p e s m args below meth c A Q ls S hA w hl hret
  have hl : lv_has ls 4 [(0, .ref (a 0)), (1, .int x), (2, .int y)] := hl
  have w : zW D (zt_1 ca) A s.heap s (zw_1 a ca ok (nI Ln) (nI Rn) bs kn pr wt lk wy) s.heap [] := w
  have hj : zp_cd x Ln < Ln := zp_cd_lt hL.1
  have hb : zp_cd y Rn < Rn := zp_cd_lt hR.1
  have hgl : g (zp_cd x Ln) < 256 := Nat.lt_of_lt_of_le (hlt _) (zp_pow hR.2)
  refine lv_iload_n S.1 S.2.1 dX1_may_0 rfl (lv_at hl 1 rfl) ?_
  refine lv_ldc S.1 S.2.1 S.2.2.2.1 (S.2.2.2.2 _ q121) dX1_may_1 ?_
  refine lv_iand S.1 S.2.1 dX1_may_3 ?_
  refine zm_top (pk_and x 31 (by decide)) ?_
  refine lv_aload_n S.1 S.2.1 dX1_may_4 rfl (lv_at hl 0 rfl) ?_
  refine g1_nn S w dX1_may_5 ?_
  refine lv_irem S.1 S.2.1 dX1_may_8 (nI_ne0 hL.1 (by omega)) ?_
  refine zm_top (y := nI (zp_cd x Ln)) (pk_rem (Nat.mod_lt _ (by decide)) hL.1 (by omega)) ?_
  refine lv_istore_n (lv' := [(3, .int (nI (zp_cd x Ln))), (0, .ref (a 0)), (1, .int x), (2, .int y)]) S.1 S.2.1 dX1_may_9 rfl hl (by decide) rfl (fun ls hl => ?_)
  refine lv_aload_n S.1 S.2.1 dX1_may_10 rfl (lv_at hl 1 rfl) ?_
  refine g1_ok S w dX1_may_11 ?_
  refine lv_iload_n S.1 S.2.1 dX1_may_14 rfl (lv_at hl 0 rfl) ?_
  refine lv_aload_n S.1 S.2.1 dX1_may_15 rfl (lv_at hl 1 rfl) ?_
  refine g1_ok S w dX1_may_16 ?_
  refine lv_iload_n S.1 S.2.1 dX1_may_19 rfl (lv_at hl 0 rfl) ?_
  refine ld1_ok (v := nI (g (zp_cd x Ln))) S w (by omega) (hg _ (by omega)) dX1_may_20 ?_
  refine lv_iconst (v := nI 1) S.1 S.2.1 dX1_may_21 (by decide) ?_
  refine lv_iload_n S.1 S.2.1 dX1_may_22 rfl (lv_at hl 3 rfl) ?_
  refine lv_ldc S.1 S.2.1 S.2.2.2.1 (S.2.2.2.2 _ q121) dX1_may_23 ?_
  refine lv_iand S.1 S.2.1 dX1_may_25 ?_
  refine zm_top (pk_and y 31 (by decide)) ?_
  refine lv_aload_n S.1 S.2.1 dX1_may_26 rfl (lv_at hl 1 rfl) ?_
  refine g1_mm S w dX1_may_27 ?_
  refine lv_irem S.1 S.2.1 dX1_may_30 (nI_ne0 hR.1 (by omega)) ?_
  refine zm_top (y := nI (zp_cd y Rn)) (pk_rem (Nat.mod_lt _ (by decide)) hR.1 (by omega)) ?_
  refine zm_shl S (by omega) dX1_may_31 ?_
  refine zm_ior S dX1_may_32 ?_
  refine st1_ok S w (by omega) dX1_may_33 (fun H locs w => ?_)
  refine lv_aload_n S.1 S.2.1 dX1_may_34 rfl (lv_at hl 1 rfl) ?_
  refine lv_iconst (v := nI 0) S.1 S.2.1 dX1_may_35 (by decide) ?_
  refine p1_kn S w (by decide) (by decide) dX1_may_36 (fun H locs w => ?_)
  exact hret _ _ _ _ (_, nI Ln, nI Rn, bs, nI 0, pr, wt, lk, wy) w ⟨_, zm_g_upd hg, rfl⟩ dX1_may_39
set_option maxHeartbeats 4000000 in
set_option maxRecDepth 100000 in
theorem ct_not1 (l : Launch) (D : va_G) (a : Nat → Nat) (ca : Nat → ClassId) (x y : Int32) (Ln Rn : Nat) (g : Nat → Nat) (ok bs : Nat → Int32) (kn pr wt lk : Int32) (wy : Nat → Int64) (hL : 0 < Ln ∧ Ln ≤ 8) (hR : 0 < Rn ∧ Rn ≤ 8) (hg : zm_g g ok) (hlt : ∀ i, g i < 2 ^ Rn) : zCv l yX1_not cX1_not 4 (zr 0 0) D (zf_1 a ca) (zt_1 ca) [.ref (a 0), .int x, .int y] (ok, nI Ln, nI Rn, bs, kn, pr, wt, lk, wy) (fun u => ∃ ok', zm_g (zp_u g (zp_cd x Ln) (zp_clr (g (zp_cd x Ln)) (zp_cd y Rn))) ok' ∧ u = (ok', nI Ln, nI Rn, bs, nI 0, pr, wt, lk, wy)) := by
  refine zmet_v RX1 (by decide) rfl (Nat.le_of_ble_eq_true rfl) ?_
  intro p e s m args below meth c A Q ls S hA w hl hret
  have hl : lv_has ls 4 [(0, .ref (a 0)), (1, .int x), (2, .int y)] := hl
  have w : zW D (zt_1 ca) A s.heap s (zw_1 a ca ok (nI Ln) (nI Rn) bs kn pr wt lk wy) s.heap [] := w
  have hj : zp_cd x Ln < Ln := zp_cd_lt hL.1
  have hb : zp_cd y Rn < Rn := zp_cd_lt hR.1
  have hgl : g (zp_cd x Ln) < 256 := Nat.lt_of_lt_of_le (hlt _) (zp_pow hR.2)
  refine lv_iload_n S.1 S.2.1 dX1_not_0 rfl (lv_at hl 1 rfl) ?_
  refine lv_ldc S.1 S.2.1 S.2.2.2.1 (S.2.2.2.2 _ q121) dX1_not_1 ?_
  refine lv_iand S.1 S.2.1 dX1_not_3 ?_
  refine zm_top (pk_and x 31 (by decide)) ?_
  refine lv_aload_n S.1 S.2.1 dX1_not_4 rfl (lv_at hl 0 rfl) ?_
  refine g1_nn S w dX1_not_5 ?_
  refine lv_irem S.1 S.2.1 dX1_not_8 (nI_ne0 hL.1 (by omega)) ?_
  refine zm_top (y := nI (zp_cd x Ln)) (pk_rem (Nat.mod_lt _ (by decide)) hL.1 (by omega)) ?_
  refine lv_istore_n (lv' := [(3, .int (nI (zp_cd x Ln))), (0, .ref (a 0)), (1, .int x), (2, .int y)]) S.1 S.2.1 dX1_not_9 rfl hl (by decide) rfl (fun ls hl => ?_)
  refine lv_aload_n S.1 S.2.1 dX1_not_10 rfl (lv_at hl 1 rfl) ?_
  refine g1_ok S w dX1_not_11 ?_
  refine lv_iload_n S.1 S.2.1 dX1_not_14 rfl (lv_at hl 0 rfl) ?_
  refine lv_aload_n S.1 S.2.1 dX1_not_15 rfl (lv_at hl 1 rfl) ?_
  refine g1_ok S w dX1_not_16 ?_
  refine lv_iload_n S.1 S.2.1 dX1_not_19 rfl (lv_at hl 0 rfl) ?_
  refine ld1_ok (v := nI (g (zp_cd x Ln))) S w (by omega) (hg _ (by omega)) dX1_not_20 ?_
  refine lv_iconst (v := nI 1) S.1 S.2.1 dX1_not_21 (by decide) ?_
  refine lv_iload_n S.1 S.2.1 dX1_not_22 rfl (lv_at hl 3 rfl) ?_
  refine lv_ldc S.1 S.2.1 S.2.2.2.1 (S.2.2.2.2 _ q121) dX1_not_23 ?_
  refine lv_iand S.1 S.2.1 dX1_not_25 ?_
  refine zm_top (pk_and y 31 (by decide)) ?_
  refine lv_aload_n S.1 S.2.1 dX1_not_26 rfl (lv_at hl 1 rfl) ?_
  refine g1_mm S w dX1_not_27 ?_
  refine lv_irem S.1 S.2.1 dX1_not_30 (nI_ne0 hR.1 (by omega)) ?_
  refine zm_top (y := nI (zp_cd y Rn)) (pk_rem (Nat.mod_lt _ (by decide)) hR.1 (by omega)) ?_
  refine zm_shl S (by omega) dX1_not_31 ?_
  refine zm_clr S hgl (by omega) dX1_not_32 dX1_not_33 dX1_not_34 ?_
  refine st1_ok S w (by omega) dX1_not_35 (fun H locs w => ?_)
  refine lv_aload_n S.1 S.2.1 dX1_not_36 rfl (lv_at hl 1 rfl) ?_
  refine lv_iconst (v := nI 0) S.1 S.2.1 dX1_not_37 (by decide) ?_
  refine p1_kn S w (by decide) (by decide) dX1_not_38 (fun H locs w => ?_)
  exact hret _ _ _ _ (_, nI Ln, nI Rn, bs, nI 0, pr, wt, lk, wy) w ⟨_, zm_g_upd hg, rfl⟩ dX1_not_41
end
section
/-! MateDeskModel: reckon -/
def zp_pr (R : Nat) (g : Nat → Nat) (L : Nat) : Nat := zp_mx (2 ^ R) (fun s => if zp_rch R g L s = true then zp_pc s else 0)
def zp_fw (g : Nat → Nat) (L : Nat) : Nat → Nat := fun s => zp_pc s + zp_pc (zp_or g L (fun a => !s.testBit a))
def zp_fl (g : Nat → Nat) (L : Nat) : Nat → Nat := fun s => zp_pc s - zp_pc (zp_or g L (fun a => s.testBit a))
def zp_wt (g : Nat → Nat) (L : Nat) : Nat := zp_mn (2 ^ L) (zp_fw g L)
def zp_lk (g : Nat → Nat) (L : Nat) : Nat := zp_mx (2 ^ L) (zp_fl g L)
/-- what best holds at j after a rows -/
def zm_w (x : Bool) (j : Nat) : Int32 := if x = true then nI (zp_pc j) else -1
def zm_v (R : Nat) (g : Nat → Nat) (a j : Nat) : Int32 := zm_w (zp_rch R g a j) j
theorem zm_v_0 {R : Nat} {g : Nat → Nat} {j : Nat} : zm_v R g 0 j = if j = 0 then nI 0 else -1 := by
  unfold zm_v zm_w
  by_cases e : j = 0
  · rw [if_pos e, if_pos (by simp [zp_rch, e]), e, zp_pc_0]
  · rw [if_neg e, if_neg (by simp [zp_rch, e])]
theorem zp_rch_z {R : Nat} {g : Nat → Nat} : ∀ a, zp_rch R g a 0 = true := by
  intro a
  induction a with
  | zero => rfl
  | succ a ih => simp [zp_rch, ih]
theorem zm_v_z {R : Nat} {g : Nat → Nat} {a : Nat} : zm_v R g a 0 = zm_v R g (a + 1) 0 := by
  unfold zm_v
  rw [zp_rch_z, zp_rch_z]
theorem zm_v_lt {R : Nat} {g : Nat → Nat} {a j : Nat} : zm_v R g a j < 0 ↔ zp_rch R g a j = false := by
  unfold zm_v zm_w
  cases h : zp_rch R g a j with
  | true =>
    rw [if_pos rfl]
    have := zp_pc_le (v := j)
    exact ⟨fun h2 => absurd h2 (nI_pos (by omega)), fun h2 => by cases h2⟩
  | false =>
    rw [if_neg (by decide)]
    exact ⟨fun _ => rfl, fun _ => by decide⟩
set_option maxRecDepth 100000 in
theorem zm_m1 : ∀ M, M < 9 → (-1 : Int32) ≤ nI M := by decide +kernel
set_option maxRecDepth 100000 in
theorem zm_sb : ∀ x, x < 9 → ∀ y, y < 9 → ∀ M, M < 9 → (nI x - nI y ≤ nI M ↔ ¬ M < x - y) := by decide +kernel
theorem zm_v_le {R : Nat} {g : Nat → Nat} {a j M : Nat} (hM : M ≤ 8) : zm_v R g a j ≤ nI M ↔ ¬ M < (if zp_rch R g a j = true then zp_pc j else 0) := by
  unfold zm_v zm_w
  have := zp_pc_le (v := j)
  by_cases h : zp_rch R g a j = true
  · rw [if_pos h, if_pos h, nI_leI (by omega) (by omega)]
    omega
  · rw [if_neg h, if_neg h]
    exact ⟨fun _ => by omega, fun _ => zm_m1 M (by omega)⟩
theorem zm_v_eq {R : Nat} {g : Nat → Nat} {a j M : Nat} (h : M < (if zp_rch R g a j = true then zp_pc j else 0)) : zm_v R g a j = nI (if zp_rch R g a j = true then zp_pc j else 0) := by
  unfold zm_v zm_w
  by_cases e : zp_rch R g a j = true
  · rw [if_pos e, if_pos e]
  · rw [if_neg e] at h
    omega
section X1c
variable {p : Program} {l : Launch} {e : Env} {R : Room} {s : State} {m : MethodId} {args : Array Value} {below : List Frame} {meth : Method} {c : Code} {cells slots : Nat} {Q : State → Prop}
variable {D : va_G} {A : Nat → Prop} {H0 : Heap} {a : Nat → Nat} {ca : Nat → ClassId}
variable {Ln Rn : Nat} {g : Nat → Nat} {ok bs : Nat → Int32} {kn pr wt lk : Int32} {wy : Nat → Int64}
set_option maxHeartbeats 4000000 in
set_option maxRecDepth 100000 in
theorem lp1_rA (S : CallFix p m c cX1_reckon 5 s args lw_all RX1) (kk : ∀ (bs : Nat → Int32) (H : Heap) (locs : List Loc) (ls : Array Slot), (∀ j, j < 256 → bs j = zm_v Rn g 0 j) → zW D (zt_1 ca) A H0 s (zw_1 a ca ok (nI Ln) (nI Rn) bs kn pr wt lk wy) H locs → lv_has ls 5 [(0, .ref (a 0))] → W p l e R s m args below meth c H locs cells slots Q (F0 m 43 ls [])) : ∀ (n i : Nat) (bs : Nat → Int32), 257 ≤ i + n → i ≤ 256 → (∀ j, j < i → bs j = zm_v Rn g 0 j) → ∀ (H : Heap) (locs : List Loc) (ls : Array Slot), zW D (zt_1 ca) A H0 s (zw_1 a ca ok (nI Ln) (nI Rn) bs kn pr wt lk wy) H locs → lv_has ls 5 [(0, .ref (a 0)), (1, .int (nI i))] → W p l e R s m args below meth c H locs cells slots Q (F0 m 15 ls []) := by
  intro n
  induction n with
  | zero =>
    intro i bs h1 h2
    exact absurd h1 (by omega)
  | succ n ih =>
    intro i bs h1 h2 h3 H locs ls w hl
    refine lv_iload_n S.1 S.2.1 dX1_reckon_15 rfl (lv_at hl 1 rfl) ?_
    refine lv_sipush (v := nI 256) S.1 S.2.1 dX1_reckon_16 (by decide) ?_
    refine zm_ge S (tgt := 43) (by omega) (by decide) dX1_reckon_19 (by decide) (fun h => ?_) (fun h => ?_)
    · exact kk bs H locs ls (fun j hj => h3 j (by omega)) w (lv_sub hl [0] rfl)
    · refine lv_aload_n S.1 S.2.1 dX1_reckon_22 rfl (lv_at hl 0 rfl) ?_
      refine g1_bs S w dX1_reckon_23 ?_
      refine lv_iload_n S.1 S.2.1 dX1_reckon_26 rfl (lv_at hl 1 rfl) ?_
      refine lv_iload_n S.1 S.2.1 dX1_reckon_27 rfl (lv_at hl 1 rfl) ?_
      refine zm_ifne S (tgt := 35) (by omega) dX1_reckon_28 (by decide) (fun h4 => ?_) (fun h4 => ?_)
      · refine lv_iconst (v := -1) S.1 S.2.1 dX1_reckon_35 (by decide) ?_
        refine st1_bs S w (by omega) dX1_reckon_36 (fun H locs w => ?_)
        refine lv_iinc (v := nI (i + 1)) (lv' := [(1, .int (nI (i + 1))), (0, .ref (a 0))]) S.1 S.2.1 dX1_reckon_37 hl (k := 1) rfl (zm_inc _) (by decide) rfl (fun ls hl => ?_)
        refine lv_goto (tgt := 15) S.1 S.2.1 dX1_reckon_40 (by decide) ?_
        refine ih (i + 1) (upd bs i (-1)) (by omega) (by omega) (fun j hj => ?_) H locs ls w (lv_sub hl [1, 0] rfl)
        by_cases e : j = i
        · rw [e, pk_us, zm_v_0, if_neg h4]
        · rw [pk_un e]
          exact h3 j (by omega)
      · refine lv_iconst (v := nI 0) S.1 S.2.1 dX1_reckon_31 (by decide) ?_
        refine lv_goto (tgt := 36) S.1 S.2.1 dX1_reckon_32 (by decide) ?_
        refine st1_bs S w (by omega) dX1_reckon_36 (fun H locs w => ?_)
        refine lv_iinc (v := nI (i + 1)) (lv' := [(1, .int (nI (i + 1))), (0, .ref (a 0))]) S.1 S.2.1 dX1_reckon_37 hl (k := 1) rfl (zm_inc _) (by decide) rfl (fun ls hl => ?_)
        refine lv_goto (tgt := 15) S.1 S.2.1 dX1_reckon_40 (by decide) ?_
        refine ih (i + 1) (upd bs i (nI 0)) (by omega) (by omega) (fun j hj => ?_) H locs ls w (lv_sub hl [1, 0] rfl)
        by_cases e : j = i
        · rw [e, pk_us, zm_v_0, if_pos h4]
        · rw [pk_un e]
          exact h3 j (by omega)
set_option maxHeartbeats 4000000 in
set_option maxRecDepth 100000 in
theorem lp1_rD (S : CallFix p m c cX1_reckon 5 s args lw_all RX1) {x t : Nat} (hA : ∀ q, H0.size ≤ q → A q) (hRm : 1 ≤ R.frames ∧ 22 ≤ R.locals) (hcs : cells ≤ R.cells ∧ slots ≤ R.slots) (hR : Rn ≤ 8) (hx : x < 8) (ht : t < 2 ^ Rn) (hg : zm_g g ok) (hlt : ∀ i, g i < 2 ^ Rn) (kk : ∀ (bs : Nat → Int32) (H : Heap) (locs : List Loc) (ls : Array Slot), (∀ j, j < 2 ^ Rn → bs j = if j = t then zm_w (zp_rch Rn g x t || zp_any Rn (fun b => t.testBit b && (g x).testBit b && zp_rch Rn g x (zp_clr t b))) t else if t < j then zm_v Rn g (x + 1) j else zm_v Rn g x j) → zW D (zt_1 ca) A H0 s (zw_1 a ca ok (nI Ln) (nI Rn) bs kn pr wt lk wy) H locs → lv_has ls 5 [(0, .ref (a 0)), (1, .int (nI x)), (2, .int (nI t))] → W p l e R s m args below meth c H locs cells slots Q (F0 m 128 ls [])) : ∀ (n b : Nat) (bs : Nat → Int32), Rn + 1 ≤ b + n → b ≤ Rn → (∀ j, j < 2 ^ Rn → bs j = if j = t then zm_w (zp_rch Rn g x t || zp_any b (fun b => t.testBit b && (g x).testBit b && zp_rch Rn g x (zp_clr t b))) t else if t < j then zm_v Rn g (x + 1) j else zm_v Rn g x j) → ∀ (H : Heap) (locs : List Loc) (ls : Array Slot), zW D (zt_1 ca) A H0 s (zw_1 a ca ok (nI Ln) (nI Rn) bs kn pr wt lk wy) H locs → lv_has ls 5 [(0, .ref (a 0)), (1, .int (nI x)), (2, .int (nI t)), (3, .int (nI b))] → W p l e R s m args below meth c H locs cells slots Q (F0 m 68 ls []) := by
  have hp := zp_pow hR
  have hgx : g x < 256 := Nat.lt_of_lt_of_le (hlt x) hp
  intro n
  induction n with
  | zero =>
    intro b bs h1 h2
    exact absurd h1 (by omega)
  | succ n ih =>
    intro b bs h1 h2 h3 H locs ls w hl
    have keepI : (t.testBit b && (g x).testBit b && zp_rch Rn g x (zp_clr t b)) = false → (∀ j, j < 2 ^ Rn → bs j = if j = t then zm_w (zp_rch Rn g x t || zp_any (b + 1) (fun b => t.testBit b && (g x).testBit b && zp_rch Rn g x (zp_clr t b))) t else if t < j then zm_v Rn g (x + 1) j else zm_v Rn g x j) := by
      intro hz j hj
      simp only [zp_any]
      rw [hz, Bool.or_false]
      exact h3 j hj
    refine lv_iload_n S.1 S.2.1 dX1_reckon_68 rfl (lv_at hl 3 rfl) ?_
    refine lv_aload_n S.1 S.2.1 dX1_reckon_69 rfl (lv_at hl 0 rfl) ?_
    refine g1_mm S w dX1_reckon_70 ?_
    refine zm_ge S (tgt := 128) (by omega) (by omega) dX1_reckon_73 (by decide) (fun h => ?_) (fun h => ?_)
    · have e : b = Rn := by omega
      subst e
      exact kk bs H locs ls h3 w (lv_sub hl [0, 1, 2] rfl)
    · refine lv_iload_n S.1 S.2.1 dX1_reckon_76 rfl (lv_at hl 2 rfl) ?_
      refine lv_iload_n S.1 S.2.1 dX1_reckon_77 rfl (lv_at hl 3 rfl) ?_
      refine zm_bit S (by omega) (by omega) dX1_reckon_78 dX1_reckon_79 dX1_reckon_80 ?_
      refine zm_bif S (tgt := 122) dX1_reckon_81 (by decide) (fun hb1 => ?_) (fun hb1 => ?_)
      · refine lv_iinc (v := nI (b + 1)) (lv' := [(3, .int (nI (b + 1))), (0, .ref (a 0)), (1, .int (nI x)), (2, .int (nI t))]) S.1 S.2.1 dX1_reckon_122 hl (k := 3) rfl (zm_inc _) (by decide) rfl (fun ls hl => ?_)
        refine lv_goto (tgt := 68) S.1 S.2.1 dX1_reckon_125 (by decide) ?_
        exact ih (b + 1) bs (by omega) (by omega) (keepI (by rw [hb1]; rfl)) H locs ls w (lv_sub hl [1, 2, 3, 0] rfl)
      · refine lv_aload_n S.1 S.2.1 dX1_reckon_84 rfl (lv_at hl 0 rfl) ?_
        refine g1_ok S w dX1_reckon_85 ?_
        refine lv_iload_n S.1 S.2.1 dX1_reckon_88 rfl (lv_at hl 1 rfl) ?_
        refine ld1_ok (v := nI (g x)) S w (by omega) (hg _ hx) dX1_reckon_89 ?_
        refine lv_iload_n S.1 S.2.1 dX1_reckon_90 rfl (lv_at hl 3 rfl) ?_
        refine zm_bit S (hgx) (by omega) dX1_reckon_91 dX1_reckon_92 dX1_reckon_93 ?_
        refine zm_bif S (tgt := 122) dX1_reckon_94 (by decide) (fun hb2 => ?_) (fun hb2 => ?_)
        · refine lv_iinc (v := nI (b + 1)) (lv' := [(3, .int (nI (b + 1))), (0, .ref (a 0)), (1, .int (nI x)), (2, .int (nI t))]) S.1 S.2.1 dX1_reckon_122 hl (k := 3) rfl (zm_inc _) (by decide) rfl (fun ls hl => ?_)
          refine lv_goto (tgt := 68) S.1 S.2.1 dX1_reckon_125 (by decide) ?_
          exact ih (b + 1) bs (by omega) (by omega) (keepI (by rw [hb2, Bool.and_false]; rfl)) H locs ls w (lv_sub hl [1, 2, 3, 0] rfl)
        · have hcl := zp_clr_lt t (by omega) b (by omega) hb1
          refine lv_aload_n S.1 S.2.1 dX1_reckon_97 rfl (lv_at hl 0 rfl) ?_
          refine g1_bs S w dX1_reckon_98 ?_
          refine lv_iload_n S.1 S.2.1 dX1_reckon_101 rfl (lv_at hl 2 rfl) ?_
          refine lv_iconst (v := nI 1) S.1 S.2.1 dX1_reckon_102 (by decide) ?_
          refine lv_iload_n S.1 S.2.1 dX1_reckon_103 rfl (lv_at hl 3 rfl) ?_
          refine zm_shl S (by omega) dX1_reckon_104 ?_
          refine zm_clr S (by omega) (by omega) dX1_reckon_105 dX1_reckon_106 dX1_reckon_107 ?_
          refine ld1_bs (v := zm_v Rn g x (zp_clr t b)) S w (by omega) (by rw [h3 _ (by omega), if_neg (by omega), if_neg (by omega)]) dX1_reckon_108 ?_
          refine lv_if_lt (tgt := 122) S.1 S.2.1 dX1_reckon_109 (by decide) (fun hb3 => ?_) (fun hb3 => ?_)
          · have hb3 := zm_v_lt.mp hb3
            refine lv_iinc (v := nI (b + 1)) (lv' := [(3, .int (nI (b + 1))), (0, .ref (a 0)), (1, .int (nI x)), (2, .int (nI t))]) S.1 S.2.1 dX1_reckon_122 hl (k := 3) rfl (zm_inc _) (by decide) rfl (fun ls hl => ?_)
            refine lv_goto (tgt := 68) S.1 S.2.1 dX1_reckon_125 (by decide) ?_
            exact ih (b + 1) bs (by omega) (by omega) (keepI (by rw [hb3, Bool.and_false])) H locs ls w (lv_sub hl [1, 2, 3, 0] rfl)
          · have hb4 : zp_rch Rn g x (zp_clr t b) = true := by
              cases hq : zp_rch Rn g x (zp_clr t b) with
              | true => rfl
              | false => exact absurd (zm_v_lt.mpr hq) hb3
            refine lv_aload_n S.1 S.2.1 dX1_reckon_112 rfl (lv_at hl 0 rfl) ?_
            refine g1_bs S w dX1_reckon_113 ?_
            refine lv_iload_n S.1 S.2.1 dX1_reckon_116 rfl (lv_at hl 2 rfl) ?_
            refine lv_iload_n S.1 S.2.1 dX1_reckon_117 rfl (lv_at hl 2 rfl) ?_
            refine zcall_s (As := [.int (nI t)]) (rest := [.int (nI t), .ref (a 2)]) S hA w (ct_count1 l D t (by omega)) (va_cwS 1 S.2.2.2.2 (lw_S q134 q135 q5 q136) rfl rfl rfl (by decide +kernel) ⟨hRm.1, hRm.2⟩) rfl hl.1 rfl (Nat.le_of_ble_eq_true rfl) hcs dX1_reckon_118 (fun r H locs hr w => ?_)
            subst hr
            refine st1_bs S w (by omega) dX1_reckon_121 (fun H locs w => ?_)
            refine lv_iinc (v := nI (b + 1)) (lv' := [(3, .int (nI (b + 1))), (0, .ref (a 0)), (1, .int (nI x)), (2, .int (nI t))]) S.1 S.2.1 dX1_reckon_122 hl (k := 3) rfl (zm_inc _) (by decide) rfl (fun ls hl => ?_)
            refine lv_goto (tgt := 68) S.1 S.2.1 dX1_reckon_125 (by decide) ?_
            refine ih (b + 1) (upd bs t (nI (zp_pc t))) (by omega) (by omega) (fun j hj => ?_) H locs ls w (lv_sub hl [1, 2, 3, 0] rfl)
            by_cases e : j = t
            · have hz : (zp_rch Rn g x t || zp_any (b + 1) (fun b => t.testBit b && (g x).testBit b && zp_rch Rn g x (zp_clr t b))) = true := by
                simp only [zp_any]
                rw [hb1, hb2, hb4]
                simp
              rw [e, pk_us, if_pos rfl, hz]
              rfl
            · rw [pk_un e, if_neg e, h3 j hj, if_neg e]
set_option maxHeartbeats 4000000 in
set_option maxRecDepth 100000 in
theorem lp1_rC (S : CallFix p m c cX1_reckon 5 s args lw_all RX1) {x : Nat} (hA : ∀ q, H0.size ≤ q → A q) (hRm : 1 ≤ R.frames ∧ 22 ≤ R.locals) (hcs : cells ≤ R.cells ∧ slots ≤ R.slots) (hR : Rn ≤ 8) (hx : x < 8) (hg : zm_g g ok) (hlt : ∀ i, g i < 2 ^ Rn) (kk : ∀ (bs : Nat → Int32) (H : Heap) (locs : List Loc) (ls : Array Slot), (∀ j, j < 2 ^ Rn → bs j = zm_v Rn g (x + 1) j) → zW D (zt_1 ca) A H0 s (zw_1 a ca ok (nI Ln) (nI Rn) bs kn pr wt lk wy) H locs → lv_has ls 5 [(0, .ref (a 0)), (1, .int (nI x))] → W p l e R s m args below meth c H locs cells slots Q (F0 m 134 ls [])) : ∀ (n t : Nat) (bs : Nat → Int32), t < n → t < 2 ^ Rn → (∀ j, j < 2 ^ Rn → bs j = if t < j then zm_v Rn g (x + 1) j else zm_v Rn g x j) → ∀ (H : Heap) (locs : List Loc) (ls : Array Slot), zW D (zt_1 ca) A H0 s (zw_1 a ca ok (nI Ln) (nI Rn) bs kn pr wt lk wy) H locs → lv_has ls 5 [(0, .ref (a 0)), (1, .int (nI x)), (2, .int (nI t))] → W p l e R s m args below meth c H locs cells slots Q (F0 m 62 ls []) := by
  have hp := zp_pow hR
  intro n
  induction n with
  | zero =>
    intro t bs h1 h2
    exact absurd h1 (by omega)
  | succ n ih =>
    intro t bs h1 h2 h3 H locs ls w hl
    refine lv_iload_n S.1 S.2.1 dX1_reckon_62 rfl (lv_at hl 2 rfl) ?_
    refine zm_ifle S (tgt := 134) (by omega) dX1_reckon_63 (by decide) (fun h => ?_) (fun h => ?_)
    · refine kk bs H locs ls (fun j hj => ?_) w (lv_sub hl [0, 1] rfl)
      by_cases e : j = 0
      · rw [e, h3 0 (by omega), if_neg (by omega)]; exact zm_v_z
      · rw [h3 j hj, if_pos (by omega)]
    · refine lv_iconst (v := nI 0) S.1 S.2.1 dX1_reckon_66 (by decide) ?_
      refine lv_istore_n (lv' := [(3, .int (nI 0)), (0, .ref (a 0)), (1, .int (nI x)), (2, .int (nI t))]) S.1 S.2.1 dX1_reckon_67 rfl hl (by decide) rfl (fun ls hl => ?_)
      refine lp1_rD S hA hRm hcs hR hx h2 hg hlt (fun bs H locs ls h4 w hl => ?_) (Rn + 1) 0 bs (by omega) (Nat.zero_le _) (fun j hj => ?_) H locs ls w (lv_sub hl [1, 2, 3, 0] rfl)
      · refine lv_iinc (v := nI (t - 1)) (lv' := [(2, .int (nI (t - 1))), (0, .ref (a 0)), (1, .int (nI x))]) S.1 S.2.1 dX1_reckon_128 hl (k := 2) rfl (zm_dp h) (by decide) rfl (fun ls hl => ?_)
        refine lv_goto (tgt := 62) S.1 S.2.1 dX1_reckon_131 (by decide) ?_
        refine ih (t - 1) bs (by omega) (by omega) (fun j hj => ?_) H locs ls w (lv_sub hl [1, 2, 0] rfl)
        rw [h4 j hj]
        by_cases e : j = t
        · rw [if_pos e, if_pos (by omega), e]
          rfl
        · rw [if_neg e]
          by_cases e2 : t < j
          · rw [if_pos e2, if_pos (by omega)]
          · rw [if_neg e2, if_neg (by omega)]
      · simp only [zp_any]
        rw [Bool.or_false]
        by_cases e : j = t
        · rw [if_pos e, e, h3 t h2, if_neg (Nat.lt_irrefl t)]
          rfl
        · rw [if_neg e, h3 j hj]
set_option maxHeartbeats 4000000 in
set_option maxRecDepth 100000 in
theorem lp1_rB (S : CallFix p m c cX1_reckon 5 s args lw_all RX1) (hA : ∀ q, H0.size ≤ q → A q) (hRm : 1 ≤ R.frames ∧ 22 ≤ R.locals) (hcs : cells ≤ R.cells ∧ slots ≤ R.slots) (hL : Ln ≤ 8) (hR : Rn ≤ 8) (hg : zm_g g ok) (hlt : ∀ i, g i < 2 ^ Rn) (kk : ∀ (bs : Nat → Int32) (H : Heap) (locs : List Loc) (ls : Array Slot), (∀ j, j < 2 ^ Rn → bs j = zm_v Rn g Ln j) → zW D (zt_1 ca) A H0 s (zw_1 a ca ok (nI Ln) (nI Rn) bs kn pr wt lk wy) H locs → lv_has ls 5 [(0, .ref (a 0))] → W p l e R s m args below meth c H locs cells slots Q (F0 m 140 ls [])) : ∀ (n x : Nat) (bs : Nat → Int32), Ln + 1 ≤ x + n → x ≤ Ln → (∀ j, j < 2 ^ Rn → bs j = zm_v Rn g x j) → ∀ (H : Heap) (locs : List Loc) (ls : Array Slot), zW D (zt_1 ca) A H0 s (zw_1 a ca ok (nI Ln) (nI Rn) bs kn pr wt lk wy) H locs → lv_has ls 5 [(0, .ref (a 0)), (1, .int (nI x))] → W p l e R s m args below meth c H locs cells slots Q (F0 m 45 ls []) := by
  have hp := zp_pow hR
  have hpos := Nat.two_pow_pos Rn
  intro n
  induction n with
  | zero =>
    intro x bs h1 h2
    exact absurd h1 (by omega)
  | succ n ih =>
    intro x bs h1 h2 h3 H locs ls w hl
    refine lv_iload_n S.1 S.2.1 dX1_reckon_45 rfl (lv_at hl 1 rfl) ?_
    refine lv_aload_n S.1 S.2.1 dX1_reckon_46 rfl (lv_at hl 0 rfl) ?_
    refine g1_nn S w dX1_reckon_47 ?_
    refine zm_ge S (tgt := 140) (by omega) (by omega) dX1_reckon_50 (by decide) (fun h => ?_) (fun h => ?_)
    · have e : x = Ln := by omega
      subst e
      exact kk bs H locs ls h3 w (lv_sub hl [0] rfl)
    · refine lv_iconst (v := nI 1) S.1 S.2.1 dX1_reckon_53 (by decide) ?_
      refine lv_aload_n S.1 S.2.1 dX1_reckon_54 rfl (lv_at hl 0 rfl) ?_
      refine g1_mm S w dX1_reckon_55 ?_
      refine zm_shl S (by omega) dX1_reckon_58 ?_
      refine lv_iconst (v := nI 1) S.1 S.2.1 dX1_reckon_59 (by decide) ?_
      refine zm_isub S (by omega) dX1_reckon_60 ?_
      refine lv_istore_n (lv' := [(2, .int (nI (2 ^ Rn - 1))), (0, .ref (a 0)), (1, .int (nI x))]) S.1 S.2.1 dX1_reckon_61 rfl hl (by decide) rfl (fun ls hl => ?_)
      refine lp1_rC S hA hRm hcs hR (by omega) hg hlt (fun bs H locs ls h4 w hl => ?_) (2 ^ Rn) (2 ^ Rn - 1) bs (by omega) (by omega) (fun j hj => by rw [h3 j hj, if_neg (by omega)]) H locs ls w (lv_sub hl [1, 2, 0] rfl)
      refine lv_iinc (v := nI (x + 1)) (lv' := [(1, .int (nI (x + 1))), (0, .ref (a 0))]) S.1 S.2.1 dX1_reckon_134 hl (k := 1) rfl (zm_inc _) (by decide) rfl (fun ls hl => ?_)
      refine lv_goto (tgt := 45) S.1 S.2.1 dX1_reckon_137 (by decide) ?_
      exact ih (x + 1) bs (by omega) (by omega) h4 H locs ls w (lv_sub hl [1, 0] rfl)
set_option maxHeartbeats 4000000 in
set_option maxRecDepth 100000 in
theorem lp1_rE (S : CallFix p m c cX1_reckon 5 s args lw_all RX1) (hR : Rn ≤ 8) (hbs : ∀ j, j < 2 ^ Rn → bs j = zm_v Rn g Ln j) (kk : ∀ (H : Heap) (locs : List Loc) (ls : Array Slot), zW D (zt_1 ca) A H0 s (zw_1 a ca ok (nI Ln) (nI Rn) bs kn (nI (zp_pr Rn g Ln)) wt lk wy) H locs → lv_has ls 5 [(0, .ref (a 0))] → W p l e R s m args below meth c H locs cells slots Q (F0 m 193 ls [])) : ∀ (n i : Nat), 2 ^ Rn + 1 ≤ i + n → i ≤ 2 ^ Rn → ∀ (H : Heap) (locs : List Loc) (ls : Array Slot), zW D (zt_1 ca) A H0 s (zw_1 a ca ok (nI Ln) (nI Rn) bs kn (nI (zp_mx i (fun s => if zp_rch Rn g Ln s = true then zp_pc s else 0))) wt lk wy) H locs → lv_has ls 5 [(0, .ref (a 0)), (1, .int (nI i))] → W p l e R s m args below meth c H locs cells slots Q (F0 m 147 ls []) := by
  have hp := zp_pow hR
  intro n
  induction n with
  | zero =>
    intro i h1 h2
    exact absurd h1 (by omega)
  | succ n ih =>
    intro i h1 h2 H locs ls w hl
    have hM : zp_mx i (fun s => if zp_rch Rn g Ln s = true then zp_pc s else 0) ≤ 8 := zp_mx_le (fun j _ => by
      split
      · exact zp_pc_le
      · exact Nat.zero_le _)
    refine lv_iload_n S.1 S.2.1 dX1_reckon_147 rfl (lv_at hl 1 rfl) ?_
    refine lv_iconst (v := nI 1) S.1 S.2.1 dX1_reckon_148 (by decide) ?_
    refine lv_aload_n S.1 S.2.1 dX1_reckon_149 rfl (lv_at hl 0 rfl) ?_
    refine g1_mm S w dX1_reckon_150 ?_
    refine zm_shl S (by omega) dX1_reckon_153 ?_
    refine zm_ge S (tgt := 193) (by omega) (by omega) dX1_reckon_154 (by decide) (fun h => ?_) (fun h => ?_)
    · have e : i = 2 ^ Rn := by omega
      subst e
      exact kk H locs ls w (lv_sub hl [0] rfl)
    · refine lv_aload_n S.1 S.2.1 dX1_reckon_157 rfl (lv_at hl 0 rfl) ?_
      refine lv_aload_n S.1 S.2.1 dX1_reckon_158 rfl (lv_at hl 0 rfl) ?_
      refine g1_bs S w dX1_reckon_159 ?_
      refine lv_iload_n S.1 S.2.1 dX1_reckon_162 rfl (lv_at hl 1 rfl) ?_
      refine ld1_bs (v := zm_v Rn g Ln i) S w (by omega) (hbs i h) dX1_reckon_163 ?_
      refine lv_aload_n S.1 S.2.1 dX1_reckon_164 rfl (lv_at hl 0 rfl) ?_
      refine g1_pr S w dX1_reckon_165 ?_
      refine lv_icmp_le (tgt := 180) S.1 S.2.1 dX1_reckon_168 (by decide) (fun h4 => ?_) (fun h4 => ?_)
      · have h4 := (zm_v_le hM).mp h4
        refine lv_aload_n S.1 S.2.1 dX1_reckon_180 rfl (lv_at hl 0 rfl) ?_
        refine g1_pr S w dX1_reckon_181 ?_
        refine p1_pr S w dX1_reckon_184 (fun H locs w => ?_)
        refine lv_iinc (v := nI (i + 1)) (lv' := [(1, .int (nI (i + 1))), (0, .ref (a 0))]) S.1 S.2.1 dX1_reckon_187 hl (k := 1) rfl (zm_inc _) (by decide) rfl (fun ls hl => ?_)
        refine lv_goto (tgt := 147) S.1 S.2.1 dX1_reckon_190 (by decide) ?_
        have w : zW D (zt_1 ca) A H0 s (zw_1 a ca ok (nI Ln) (nI Rn) bs kn (nI (zp_mx (i + 1) (fun s => if zp_rch Rn g Ln s = true then zp_pc s else 0))) wt lk wy) H locs := by
          simp only [zp_mx]
          rw [if_neg h4]
          exact w
        exact ih (i + 1) (by omega) (by omega) H locs ls w (lv_sub hl [1, 0] rfl)
      · have h4 : zp_mx i (fun s => if zp_rch Rn g Ln s = true then zp_pc s else 0) < (if zp_rch Rn g Ln i = true then zp_pc i else 0) := Decidable.byContradiction (fun h5 => h4 ((zm_v_le hM).mpr h5))
        refine lv_aload_n S.1 S.2.1 dX1_reckon_171 rfl (lv_at hl 0 rfl) ?_
        refine g1_bs S w dX1_reckon_172 ?_
        refine lv_iload_n S.1 S.2.1 dX1_reckon_175 rfl (lv_at hl 1 rfl) ?_
        refine ld1_bs (v := nI (if zp_rch Rn g Ln i = true then zp_pc i else 0)) S w (by omega) (by rw [hbs i h]; exact zm_v_eq h4) dX1_reckon_176 ?_
        refine lv_goto (tgt := 184) S.1 S.2.1 dX1_reckon_177 (by decide) ?_
        refine p1_pr S w dX1_reckon_184 (fun H locs w => ?_)
        refine lv_iinc (v := nI (i + 1)) (lv' := [(1, .int (nI (i + 1))), (0, .ref (a 0))]) S.1 S.2.1 dX1_reckon_187 hl (k := 1) rfl (zm_inc _) (by decide) rfl (fun ls hl => ?_)
        refine lv_goto (tgt := 147) S.1 S.2.1 dX1_reckon_190 (by decide) ?_
        have w : zW D (zt_1 ca) A H0 s (zw_1 a ca ok (nI Ln) (nI Rn) bs kn (nI (zp_mx (i + 1) (fun s => if zp_rch Rn g Ln s = true then zp_pc s else 0))) wt lk wy) H locs := by
          simp only [zp_mx]
          rw [if_pos h4]
          exact w
        exact ih (i + 1) (by omega) (by omega) H locs ls w (lv_sub hl [1, 0] rfl)
set_option maxHeartbeats 4000000 in
set_option maxRecDepth 100000 in
theorem lp1_rG (S : CallFix p m c cX1_reckon 5 s args lw_all RX1) {H : Heap} {locs : List Loc} {i : Nat} (hL : Ln ≤ 8) (hi : i < 2 ^ Ln) (hg : zm_g g ok) (w : zW D (zt_1 ca) A H0 s (zw_1 a ca ok (nI Ln) (nI Rn) bs kn pr wt lk wy) H locs) (kk : ∀ (ls : Array Slot), lv_has ls 5 [(0, .ref (a 0)), (1, .int (nI i)), (2, .int (nI (zp_or g Ln (fun a => i.testBit a)))), (3, .int (nI (zp_or g Ln (fun a => !i.testBit a))))] → W p l e R s m args below meth c H locs cells slots Q (F0 m 270 ls [])) : ∀ (n x ki ko : Nat), Ln + 1 ≤ x + n → x ≤ Ln → ki = zp_or g x (fun a => i.testBit a) → ko = zp_or g x (fun a => !i.testBit a) → ∀ (ls : Array Slot), lv_has ls 5 [(0, .ref (a 0)), (1, .int (nI i)), (2, .int (nI ki)), (3, .int (nI ko)), (4, .int (nI x))] → W p l e R s m args below meth c H locs cells slots Q (F0 m 223 ls []) := by
  have hp := zp_pow hL
  intro n
  induction n with
  | zero =>
    intro x ki ko h1 h2
    exact absurd h1 (by omega)
  | succ n ih =>
    intro x ki ko h1 h2 hki hko ls hl
    refine lv_iload S.1 S.2.1 dX1_reckon_223 (lv_at hl 4 rfl) ?_
    refine lv_aload_n S.1 S.2.1 dX1_reckon_225 rfl (lv_at hl 0 rfl) ?_
    refine g1_nn S w dX1_reckon_226 ?_
    refine zm_ge S (tgt := 270) (by omega) (by omega) dX1_reckon_229 (by decide) (fun h => ?_) (fun h => ?_)
    · have e : x = Ln := by omega
      subst e
      subst hki
      subst hko
      exact kk ls (lv_sub hl [0, 1, 2, 3] rfl)
    · refine lv_iload_n S.1 S.2.1 dX1_reckon_232 rfl (lv_at hl 1 rfl) ?_
      refine lv_iload S.1 S.2.1 dX1_reckon_233 (lv_at hl 4 rfl) ?_
      refine zm_bit S (by omega) (by omega) dX1_reckon_235 dX1_reckon_236 dX1_reckon_237 ?_
      refine zm_bin S (tgt := 254) dX1_reckon_238 (by decide) (fun h4 => ?_) (fun h4 => ?_)
      · refine lv_iload_n S.1 S.2.1 dX1_reckon_254 rfl (lv_at hl 2 rfl) ?_
        refine lv_aload_n S.1 S.2.1 dX1_reckon_255 rfl (lv_at hl 0 rfl) ?_
        refine g1_ok S w dX1_reckon_256 ?_
        refine lv_iload S.1 S.2.1 dX1_reckon_259 (lv_at hl 4 rfl) ?_
        refine ld1_ok (v := nI (g x)) S w (by omega) (hg _ (by omega)) dX1_reckon_261 ?_
        refine zm_ior S dX1_reckon_262 ?_
        refine lv_istore_n (lv' := [(2, .int (nI (ki ||| g x))), (0, .ref (a 0)), (1, .int (nI i)), (3, .int (nI ko)), (4, .int (nI x))]) S.1 S.2.1 dX1_reckon_263 rfl hl (by decide) rfl (fun ls hl => ?_)
        refine lv_iinc (v := nI (x + 1)) (lv' := [(4, .int (nI (x + 1))), (2, .int (nI (ki ||| g x))), (0, .ref (a 0)), (1, .int (nI i)), (3, .int (nI ko))]) S.1 S.2.1 dX1_reckon_264 hl (k := 4) rfl (zm_inc _) (by decide) rfl (fun ls hl => ?_)
        refine lv_goto (tgt := 223) S.1 S.2.1 dX1_reckon_267 (by decide) ?_
        refine ih (x + 1) (ki ||| g x) (ko) (by omega) (by omega) ?_ ?_ ls (lv_sub hl [2, 3, 1, 4, 0] rfl)
        · rw [hki]
          exact (if_pos h4).symm
        · rw [hko]
          exact (if_neg (by simp [h4])).symm
      · refine lv_iload_n S.1 S.2.1 dX1_reckon_241 rfl (lv_at hl 3 rfl) ?_
        refine lv_aload_n S.1 S.2.1 dX1_reckon_242 rfl (lv_at hl 0 rfl) ?_
        refine g1_ok S w dX1_reckon_243 ?_
        refine lv_iload S.1 S.2.1 dX1_reckon_246 (lv_at hl 4 rfl) ?_
        refine ld1_ok (v := nI (g x)) S w (by omega) (hg _ (by omega)) dX1_reckon_248 ?_
        refine zm_ior S dX1_reckon_249 ?_
        refine lv_istore_n (lv' := [(3, .int (nI (ko ||| g x))), (0, .ref (a 0)), (1, .int (nI i)), (2, .int (nI ki)), (4, .int (nI x))]) S.1 S.2.1 dX1_reckon_250 rfl hl (by decide) rfl (fun ls hl => ?_)
        refine lv_goto (tgt := 264) S.1 S.2.1 dX1_reckon_251 (by decide) ?_
        refine lv_iinc (v := nI (x + 1)) (lv' := [(4, .int (nI (x + 1))), (3, .int (nI (ko ||| g x))), (0, .ref (a 0)), (1, .int (nI i)), (2, .int (nI ki))]) S.1 S.2.1 dX1_reckon_264 hl (k := 4) rfl (zm_inc _) (by decide) rfl (fun ls hl => ?_)
        refine lv_goto (tgt := 223) S.1 S.2.1 dX1_reckon_267 (by decide) ?_
        refine ih (x + 1) (ki) (ko ||| g x) (by omega) (by omega) ?_ ?_ ls (lv_sub hl [2, 3, 4, 1, 0] rfl)
        · rw [hki]
          exact (if_neg (by simp [h4])).symm
        · rw [hko]
          exact (if_pos (by simp [h4])).symm
set_option maxHeartbeats 4000000 in
set_option maxRecDepth 100000 in
theorem lp1_rF (S : CallFix p m c cX1_reckon 5 s args lw_all RX1) (hA : ∀ q, H0.size ≤ q → A q) (hRm : 1 ≤ R.frames ∧ 22 ≤ R.locals) (hcs : cells ≤ R.cells ∧ slots ≤ R.slots) (hL : Ln ≤ 8) (hR : Rn ≤ 8) (hg : zm_g g ok) (hlt : ∀ i, g i < 2 ^ Rn) (kk : ∀ (H : Heap) (locs : List Loc) (ls : Array Slot), zW D (zt_1 ca) A H0 s (zw_1 a ca ok (nI Ln) (nI Rn) bs kn pr (nI (zp_wt g Ln)) (nI (zp_lk g Ln)) wy) H locs → W p l e R s m args below meth c H locs cells slots Q (F0 m 334 ls [])) : ∀ (n i : Nat), 2 ^ Ln + 1 ≤ i + n → i ≤ 2 ^ Ln → ∀ (H : Heap) (locs : List Loc) (ls : Array Slot), zW D (zt_1 ca) A H0 s (zw_1 a ca ok (nI Ln) (nI Rn) bs kn pr (nI (zp_mn i (zp_fw g Ln))) (nI (zp_mx i (zp_fl g Ln))) wy) H locs → lv_has ls 5 [(0, .ref (a 0)), (1, .int (nI i))] → W p l e R s m args below meth c H locs cells slots Q (F0 m 206 ls []) := by
  have hp := zp_pow hL
  intro n
  induction n with
  | zero =>
    intro i h1 h2
    exact absurd h1 (by omega)
  | succ n ih =>
    intro i h1 h2 H locs ls w hl
    have hin : (zp_or g Ln (fun a => i.testBit a)) < 256 := Nat.lt_of_lt_of_le (zp_or_lt hlt) (zp_pow hR)
    have hout : (zp_or g Ln (fun a => !i.testBit a)) < 256 := Nat.lt_of_lt_of_le (zp_or_lt hlt) (zp_pow hR)
    have p1 := zp_pc_le (v := i)
    have p2 := zp_pc_le (v := (zp_or g Ln (fun a => i.testBit a)))
    have p3 := zp_pc_le (v := (zp_or g Ln (fun a => !i.testBit a)))
    have hM : zp_mx i (zp_fl g Ln) ≤ 8 := zp_mx_le (fun j _ => Nat.le_trans (Nat.sub_le _ _) zp_pc_le)
    have hW : zp_mn i (zp_fw g Ln) ≤ 99 := zp_mn_99
    refine lv_iload_n S.1 S.2.1 dX1_reckon_206 rfl (lv_at hl 1 rfl) ?_
    refine lv_iconst (v := nI 1) S.1 S.2.1 dX1_reckon_207 (by decide) ?_
    refine lv_aload_n S.1 S.2.1 dX1_reckon_208 rfl (lv_at hl 0 rfl) ?_
    refine g1_nn S w dX1_reckon_209 ?_
    refine zm_shl S (by omega) dX1_reckon_212 ?_
    refine zm_ge S (tgt := 334) (by omega) (by omega) dX1_reckon_213 (by decide) (fun h => ?_) (fun h => ?_)
    · have e : i = 2 ^ Ln := by omega
      subst e
      exact kk H locs ls w
    · refine lv_iconst (v := nI 0) S.1 S.2.1 dX1_reckon_216 (by decide) ?_
      refine lv_istore_n (lv' := [(2, .int (nI 0)), (0, .ref (a 0)), (1, .int (nI i))]) S.1 S.2.1 dX1_reckon_217 rfl hl (by decide) rfl (fun ls hl => ?_)
      refine lv_iconst (v := nI 0) S.1 S.2.1 dX1_reckon_218 (by decide) ?_
      refine lv_istore_n (lv' := [(3, .int (nI 0)), (2, .int (nI 0)), (0, .ref (a 0)), (1, .int (nI i))]) S.1 S.2.1 dX1_reckon_219 rfl hl (by decide) rfl (fun ls hl => ?_)
      refine lv_iconst (v := nI 0) S.1 S.2.1 dX1_reckon_220 (by decide) ?_
      refine lv_istore (lv' := [(4, .int (nI 0)), (3, .int (nI 0)), (2, .int (nI 0)), (0, .ref (a 0)), (1, .int (nI i))]) S.1 S.2.1 dX1_reckon_221 hl (by decide) rfl (fun ls hl => ?_)
      refine lp1_rG S hL (by omega) hg w (fun ls hl => ?_) (Ln + 1) 0 0 0 (by omega) (Nat.zero_le _) rfl rfl ls (lv_sub hl [3, 4, 2, 1, 0] rfl)
      refine lv_iload_n S.1 S.2.1 dX1_reckon_270 rfl (lv_at hl 1 rfl) ?_
      refine zcall_s (As := [.int (nI i)]) (rest := []) S hA w (ct_count1 l D i (by omega)) (va_cwS 1 S.2.2.2.2 (lw_S q134 q135 q5 q136) rfl rfl rfl (by decide +kernel) ⟨hRm.1, hRm.2⟩) rfl hl.1 rfl (Nat.le_of_ble_eq_true rfl) hcs dX1_reckon_271 (fun r H locs hr w => ?_)
      subst hr
      refine lv_iload_n S.1 S.2.1 dX1_reckon_274 rfl (lv_at hl 3 rfl) ?_
      refine zcall_s (As := [.int (nI (zp_or g Ln (fun a => !i.testBit a)))]) (rest := [.int (nI (zp_pc i))]) S hA w (ct_count1 l D (zp_or g Ln (fun a => !i.testBit a)) (hout)) (va_cwS 1 S.2.2.2.2 (lw_S q134 q135 q5 q136) rfl rfl rfl (by decide +kernel) ⟨hRm.1, hRm.2⟩) rfl hl.1 rfl (Nat.le_of_ble_eq_true rfl) hcs dX1_reckon_275 (fun r H locs hr w => ?_)
      subst hr
      refine zm_iadd S dX1_reckon_278 ?_
      refine lv_aload_n S.1 S.2.1 dX1_reckon_279 rfl (lv_at hl 0 rfl) ?_
      refine g1_wt S w dX1_reckon_280 ?_
      refine zm_ge S (tgt := 299) (by omega) (by omega) dX1_reckon_283 (by decide) (fun h6 => ?_) (fun h6 => ?_)
      · have h6 : zp_mn i (zp_fw g Ln) ≤ zp_fw g Ln i := h6
        have w : zW D (zt_1 ca) A H0 s (zw_1 a ca ok (nI Ln) (nI Rn) bs kn pr (nI (zp_mn (i + 1) (zp_fw g Ln))) (nI (zp_mx i (zp_fl g Ln))) wy) H locs := by
          simp only [zp_mn]
          rw [if_neg (Nat.not_lt.mpr h6)]
          exact w
        refine lv_iload_n S.1 S.2.1 dX1_reckon_299 rfl (lv_at hl 1 rfl) ?_
        refine zcall_s (As := [.int (nI i)]) (rest := []) S hA w (ct_count1 l D i (by omega)) (va_cwS 1 S.2.2.2.2 (lw_S q134 q135 q5 q136) rfl rfl rfl (by decide +kernel) ⟨hRm.1, hRm.2⟩) rfl hl.1 rfl (Nat.le_of_ble_eq_true rfl) hcs dX1_reckon_300 (fun r H locs hr w => ?_)
        subst hr
        refine lv_iload_n S.1 S.2.1 dX1_reckon_303 rfl (lv_at hl 2 rfl) ?_
        refine zcall_s (As := [.int (nI (zp_or g Ln (fun a => i.testBit a)))]) (rest := [.int (nI (zp_pc i))]) S hA w (ct_count1 l D (zp_or g Ln (fun a => i.testBit a)) (hin)) (va_cwS 1 S.2.2.2.2 (lw_S q134 q135 q5 q136) rfl rfl rfl (by decide +kernel) ⟨hRm.1, hRm.2⟩) rfl hl.1 rfl (Nat.le_of_ble_eq_true rfl) hcs dX1_reckon_304 (fun r H locs hr w => ?_)
        subst hr
        refine lv_isub S.1 S.2.1 dX1_reckon_307 ?_
        refine lv_aload_n S.1 S.2.1 dX1_reckon_308 rfl (lv_at hl 0 rfl) ?_
        refine g1_lk S w dX1_reckon_309 ?_
        refine lv_icmp_le (tgt := 328) S.1 S.2.1 dX1_reckon_312 (by decide) (fun h7 => ?_) (fun h7 => ?_)
        · have h8 : ¬ zp_mx i (zp_fl g Ln) < zp_fl g Ln i := (zm_sb _ (by omega) _ (by omega) _ (by omega)).mp h7
          refine lv_iinc (v := nI (i + 1)) (lv' := [(1, .int (nI (i + 1))), (0, .ref (a 0)), (2, .int (nI (zp_or g Ln (fun a => i.testBit a)))), (3, .int (nI (zp_or g Ln (fun a => !i.testBit a))))]) S.1 S.2.1 dX1_reckon_328 hl (k := 1) rfl (zm_inc _) (by decide) rfl (fun ls hl => ?_)
          refine lv_goto (tgt := 206) S.1 S.2.1 dX1_reckon_331 (by decide) ?_
          have w : zW D (zt_1 ca) A H0 s (zw_1 a ca ok (nI Ln) (nI Rn) bs kn pr (nI (zp_mn (i + 1) (zp_fw g Ln))) (nI (zp_mx (i + 1) (zp_fl g Ln))) wy) H locs := by
            simp only [zp_mx]
            rw [if_neg h8]
            exact w
          exact ih (i + 1) (by omega) (by omega) H locs ls w (lv_sub hl [1, 0] rfl)
        · have h8 : zp_mx i (zp_fl g Ln) < zp_fl g Ln i := Decidable.byContradiction (fun h9 => h7 ((zm_sb _ (by omega) _ (by omega) _ (by omega)).mpr h9))
          have h10 : zp_mx i (zp_fl g Ln) < zp_pc i - zp_pc (zp_or g Ln (fun a => i.testBit a)) := h8
          refine lv_aload_n S.1 S.2.1 dX1_reckon_315 rfl (lv_at hl 0 rfl) ?_
          refine lv_iload_n S.1 S.2.1 dX1_reckon_316 rfl (lv_at hl 1 rfl) ?_
          refine zcall_s (As := [.int (nI i)]) (rest := [.ref (a 0)]) S hA w (ct_count1 l D i (by omega)) (va_cwS 1 S.2.2.2.2 (lw_S q134 q135 q5 q136) rfl rfl rfl (by decide +kernel) ⟨hRm.1, hRm.2⟩) rfl hl.1 rfl (Nat.le_of_ble_eq_true rfl) hcs dX1_reckon_317 (fun r H locs hr w => ?_)
          subst hr
          refine lv_iload_n S.1 S.2.1 dX1_reckon_320 rfl (lv_at hl 2 rfl) ?_
          refine zcall_s (As := [.int (nI (zp_or g Ln (fun a => i.testBit a)))]) (rest := [.int (nI (zp_pc i)), .ref (a 0)]) S hA w (ct_count1 l D (zp_or g Ln (fun a => i.testBit a)) (hin)) (va_cwS 1 S.2.2.2.2 (lw_S q134 q135 q5 q136) rfl rfl rfl (by decide +kernel) ⟨hRm.1, hRm.2⟩) rfl hl.1 rfl (Nat.le_of_ble_eq_true rfl) hcs dX1_reckon_321 (fun r H locs hr w => ?_)
          subst hr
          refine zm_isub S (by omega) dX1_reckon_324 ?_
          refine p1_lk S w dX1_reckon_325 (fun H locs w => ?_)
          refine lv_iinc (v := nI (i + 1)) (lv' := [(1, .int (nI (i + 1))), (0, .ref (a 0)), (2, .int (nI (zp_or g Ln (fun a => i.testBit a)))), (3, .int (nI (zp_or g Ln (fun a => !i.testBit a))))]) S.1 S.2.1 dX1_reckon_328 hl (k := 1) rfl (zm_inc _) (by decide) rfl (fun ls hl => ?_)
          refine lv_goto (tgt := 206) S.1 S.2.1 dX1_reckon_331 (by decide) ?_
          have w : zW D (zt_1 ca) A H0 s (zw_1 a ca ok (nI Ln) (nI Rn) bs kn pr (nI (zp_mn (i + 1) (zp_fw g Ln))) (nI (zp_mx (i + 1) (zp_fl g Ln))) wy) H locs := by
            simp only [zp_mx]
            rw [if_pos h8]
            exact w
          exact ih (i + 1) (by omega) (by omega) H locs ls w (lv_sub hl [1, 0] rfl)
      · refine lv_aload_n S.1 S.2.1 dX1_reckon_286 rfl (lv_at hl 0 rfl) ?_
        refine lv_iload_n S.1 S.2.1 dX1_reckon_287 rfl (lv_at hl 1 rfl) ?_
        refine zcall_s (As := [.int (nI i)]) (rest := [.ref (a 0)]) S hA w (ct_count1 l D i (by omega)) (va_cwS 1 S.2.2.2.2 (lw_S q134 q135 q5 q136) rfl rfl rfl (by decide +kernel) ⟨hRm.1, hRm.2⟩) rfl hl.1 rfl (Nat.le_of_ble_eq_true rfl) hcs dX1_reckon_288 (fun r H locs hr w => ?_)
        subst hr
        refine lv_iload_n S.1 S.2.1 dX1_reckon_291 rfl (lv_at hl 3 rfl) ?_
        refine zcall_s (As := [.int (nI (zp_or g Ln (fun a => !i.testBit a)))]) (rest := [.int (nI (zp_pc i)), .ref (a 0)]) S hA w (ct_count1 l D (zp_or g Ln (fun a => !i.testBit a)) (hout)) (va_cwS 1 S.2.2.2.2 (lw_S q134 q135 q5 q136) rfl rfl rfl (by decide +kernel) ⟨hRm.1, hRm.2⟩) rfl hl.1 rfl (Nat.le_of_ble_eq_true rfl) hcs dX1_reckon_292 (fun r H locs hr w => ?_)
        subst hr
        refine zm_iadd S dX1_reckon_295 ?_
        refine p1_wt S w dX1_reckon_296 (fun H locs w => ?_)
        have h6 : zp_fw g Ln i < zp_mn i (zp_fw g Ln) := h6
        have w : zW D (zt_1 ca) A H0 s (zw_1 a ca ok (nI Ln) (nI Rn) bs kn pr (nI (zp_mn (i + 1) (zp_fw g Ln))) (nI (zp_mx i (zp_fl g Ln))) wy) H locs := by
          simp only [zp_mn]
          rw [if_pos h6]
          exact w
        refine lv_iload_n S.1 S.2.1 dX1_reckon_299 rfl (lv_at hl 1 rfl) ?_
        refine zcall_s (As := [.int (nI i)]) (rest := []) S hA w (ct_count1 l D i (by omega)) (va_cwS 1 S.2.2.2.2 (lw_S q134 q135 q5 q136) rfl rfl rfl (by decide +kernel) ⟨hRm.1, hRm.2⟩) rfl hl.1 rfl (Nat.le_of_ble_eq_true rfl) hcs dX1_reckon_300 (fun r H locs hr w => ?_)
        subst hr
        refine lv_iload_n S.1 S.2.1 dX1_reckon_303 rfl (lv_at hl 2 rfl) ?_
        refine zcall_s (As := [.int (nI (zp_or g Ln (fun a => i.testBit a)))]) (rest := [.int (nI (zp_pc i))]) S hA w (ct_count1 l D (zp_or g Ln (fun a => i.testBit a)) (hin)) (va_cwS 1 S.2.2.2.2 (lw_S q134 q135 q5 q136) rfl rfl rfl (by decide +kernel) ⟨hRm.1, hRm.2⟩) rfl hl.1 rfl (Nat.le_of_ble_eq_true rfl) hcs dX1_reckon_304 (fun r H locs hr w => ?_)
        subst hr
        refine lv_isub S.1 S.2.1 dX1_reckon_307 ?_
        refine lv_aload_n S.1 S.2.1 dX1_reckon_308 rfl (lv_at hl 0 rfl) ?_
        refine g1_lk S w dX1_reckon_309 ?_
        refine lv_icmp_le (tgt := 328) S.1 S.2.1 dX1_reckon_312 (by decide) (fun h7 => ?_) (fun h7 => ?_)
        · have h8 : ¬ zp_mx i (zp_fl g Ln) < zp_fl g Ln i := (zm_sb _ (by omega) _ (by omega) _ (by omega)).mp h7
          refine lv_iinc (v := nI (i + 1)) (lv' := [(1, .int (nI (i + 1))), (0, .ref (a 0)), (2, .int (nI (zp_or g Ln (fun a => i.testBit a)))), (3, .int (nI (zp_or g Ln (fun a => !i.testBit a))))]) S.1 S.2.1 dX1_reckon_328 hl (k := 1) rfl (zm_inc _) (by decide) rfl (fun ls hl => ?_)
          refine lv_goto (tgt := 206) S.1 S.2.1 dX1_reckon_331 (by decide) ?_
          have w : zW D (zt_1 ca) A H0 s (zw_1 a ca ok (nI Ln) (nI Rn) bs kn pr (nI (zp_mn (i + 1) (zp_fw g Ln))) (nI (zp_mx (i + 1) (zp_fl g Ln))) wy) H locs := by
            simp only [zp_mx]
            rw [if_neg h8]
            exact w
          exact ih (i + 1) (by omega) (by omega) H locs ls w (lv_sub hl [1, 0] rfl)
        · have h8 : zp_mx i (zp_fl g Ln) < zp_fl g Ln i := Decidable.byContradiction (fun h9 => h7 ((zm_sb _ (by omega) _ (by omega) _ (by omega)).mpr h9))
          have h10 : zp_mx i (zp_fl g Ln) < zp_pc i - zp_pc (zp_or g Ln (fun a => i.testBit a)) := h8
          refine lv_aload_n S.1 S.2.1 dX1_reckon_315 rfl (lv_at hl 0 rfl) ?_
          refine lv_iload_n S.1 S.2.1 dX1_reckon_316 rfl (lv_at hl 1 rfl) ?_
          refine zcall_s (As := [.int (nI i)]) (rest := [.ref (a 0)]) S hA w (ct_count1 l D i (by omega)) (va_cwS 1 S.2.2.2.2 (lw_S q134 q135 q5 q136) rfl rfl rfl (by decide +kernel) ⟨hRm.1, hRm.2⟩) rfl hl.1 rfl (Nat.le_of_ble_eq_true rfl) hcs dX1_reckon_317 (fun r H locs hr w => ?_)
          subst hr
          refine lv_iload_n S.1 S.2.1 dX1_reckon_320 rfl (lv_at hl 2 rfl) ?_
          refine zcall_s (As := [.int (nI (zp_or g Ln (fun a => i.testBit a)))]) (rest := [.int (nI (zp_pc i)), .ref (a 0)]) S hA w (ct_count1 l D (zp_or g Ln (fun a => i.testBit a)) (hin)) (va_cwS 1 S.2.2.2.2 (lw_S q134 q135 q5 q136) rfl rfl rfl (by decide +kernel) ⟨hRm.1, hRm.2⟩) rfl hl.1 rfl (Nat.le_of_ble_eq_true rfl) hcs dX1_reckon_321 (fun r H locs hr w => ?_)
          subst hr
          refine zm_isub S (by omega) dX1_reckon_324 ?_
          refine p1_lk S w dX1_reckon_325 (fun H locs w => ?_)
          refine lv_iinc (v := nI (i + 1)) (lv' := [(1, .int (nI (i + 1))), (0, .ref (a 0)), (2, .int (nI (zp_or g Ln (fun a => i.testBit a)))), (3, .int (nI (zp_or g Ln (fun a => !i.testBit a))))]) S.1 S.2.1 dX1_reckon_328 hl (k := 1) rfl (zm_inc _) (by decide) rfl (fun ls hl => ?_)
          refine lv_goto (tgt := 206) S.1 S.2.1 dX1_reckon_331 (by decide) ?_
          have w : zW D (zt_1 ca) A H0 s (zw_1 a ca ok (nI Ln) (nI Rn) bs kn pr (nI (zp_mn (i + 1) (zp_fw g Ln))) (nI (zp_mx (i + 1) (zp_fl g Ln))) wy) H locs := by
            simp only [zp_mx]
            rw [if_pos h8]
            exact w
          exact ih (i + 1) (by omega) (by omega) H locs ls w (lv_sub hl [1, 0] rfl)
end X1c
set_option maxHeartbeats 4000000 in
set_option maxRecDepth 100000 in
theorem ct_reckon1 (l : Launch) (D : va_G) (a : Nat → Nat) (ca : Nat → ClassId) (Ln Rn : Nat) (g : Nat → Nat) (ok bs : Nat → Int32) (kn pr wt lk : Int32) (wy : Nat → Int64) (hL : 0 < Ln ∧ Ln ≤ 8) (hR : 0 < Rn ∧ Rn ≤ 8) (hg : zm_g g ok) (hlt : ∀ i, g i < 2 ^ Rn) (hkn : kn = nI 0 ∨ (kn = nI 1 ∧ pr = nI (zp_pr Rn g Ln) ∧ wt = nI (zp_wt g Ln) ∧ lk = nI (zp_lk g Ln))) : zCv l yX1_reckon cX1_reckon 5 (zr 1 22) D (zf_1 a ca) (zt_1 ca) [.ref (a 0)] (ok, nI Ln, nI Rn, bs, kn, pr, wt, lk, wy) (fun u => ∃ bs' : Nat → Int32, u = (ok, nI Ln, nI Rn, bs', nI 1, nI (zp_pr Rn g Ln), nI (zp_wt g Ln), nI (zp_lk g Ln), wy)) := by
  refine zmet_v RX1 (by decide) rfl (Nat.le_of_ble_eq_true rfl) ?_
  intro p e s m args below meth c A Q ls S hA w hl hret
  have hl : lv_has ls 5 [(0, .ref (a 0))] := hl
  have w : zW D (zt_1 ca) A s.heap s (zw_1 a ca ok (nI Ln) (nI Rn) bs kn pr wt lk wy) s.heap [] := w
  have hRm : 1 ≤ (zr 1 22).frames ∧ 22 ≤ (zr 1 22).locals := ⟨by decide, by decide⟩
  have hcs : 0 ≤ (zr 1 22).cells ∧ 0 ≤ (zr 1 22).slots := ⟨by decide, by decide⟩
  refine lv_aload_n S.1 S.2.1 dX1_reckon_0 rfl (lv_at hl 0 rfl) ?_
  refine g1_kn S w dX1_reckon_1 ?_
  rcases hkn with rfl | ⟨rfl, rfl, rfl, rfl⟩
  · refine zm_ifeq S (tgt := 8) (by decide) dX1_reckon_4 (by decide) (fun h => ?_) (fun h => ?_)
    · refine lv_aload_n S.1 S.2.1 dX1_reckon_8 rfl (lv_at hl 0 rfl) ?_
      refine lv_iconst (v := nI 1) S.1 S.2.1 dX1_reckon_9 (by decide) ?_
      refine p1_kn S w (by decide) (by decide) dX1_reckon_10 (fun H locs w => ?_)
      refine lv_iconst (v := nI 0) S.1 S.2.1 dX1_reckon_13 (by decide) ?_
      refine lv_istore_n (lv' := [(1, .int (nI 0)), (0, .ref (a 0))]) S.1 S.2.1 dX1_reckon_14 rfl hl (by decide) rfl (fun ls hl => ?_)
      refine lp1_rA (g := g) S (fun bs H locs ls h1 w hl => ?_) 257 0 bs (by omega) (Nat.zero_le _) (fun j hj => absurd hj (by omega)) _ _ ls w (lv_sub hl [1, 0] rfl)
      refine lv_iconst (v := nI 0) S.1 S.2.1 dX1_reckon_43 (by decide) ?_
      refine lv_istore_n (lv' := [(1, .int (nI 0)), (0, .ref (a 0))]) S.1 S.2.1 dX1_reckon_44 rfl hl (by decide) rfl (fun ls hl => ?_)
      refine lp1_rB S hA hRm hcs hL.2 hR.2 hg hlt (fun bs H locs ls h2 w hl => ?_) (Ln + 1) 0 bs (by omega) (Nat.zero_le _) (fun j hj => h1 j (Nat.lt_of_lt_of_le hj (zp_pow hR.2))) H locs ls w (lv_sub hl [1, 0] rfl)
      refine lv_aload_n S.1 S.2.1 dX1_reckon_140 rfl (lv_at hl 0 rfl) ?_
      refine lv_iconst (v := nI 0) S.1 S.2.1 dX1_reckon_141 (by decide) ?_
      refine p1_pr S w dX1_reckon_142 (fun H locs w => ?_)
      refine lv_iconst (v := nI 0) S.1 S.2.1 dX1_reckon_145 (by decide) ?_
      refine lv_istore_n (lv' := [(1, .int (nI 0)), (0, .ref (a 0))]) S.1 S.2.1 dX1_reckon_146 rfl hl (by decide) rfl (fun ls hl => ?_)
      refine lp1_rE S hR.2 h2 (fun H locs ls w hl => ?_) (2 ^ Rn + 1) 0 (by omega) (Nat.zero_le _) H locs ls w (lv_sub hl [1, 0] rfl)
      refine lv_aload_n S.1 S.2.1 dX1_reckon_193 rfl (lv_at hl 0 rfl) ?_
      refine lv_bipush (v := nI 99) S.1 S.2.1 dX1_reckon_194 (by decide) ?_
      refine p1_wt S w dX1_reckon_196 (fun H locs w => ?_)
      refine lv_aload_n S.1 S.2.1 dX1_reckon_199 rfl (lv_at hl 0 rfl) ?_
      refine lv_iconst (v := nI 0) S.1 S.2.1 dX1_reckon_200 (by decide) ?_
      refine p1_lk S w dX1_reckon_201 (fun H locs w => ?_)
      refine lv_iconst (v := nI 0) S.1 S.2.1 dX1_reckon_204 (by decide) ?_
      refine lv_istore_n (lv' := [(1, .int (nI 0)), (0, .ref (a 0))]) S.1 S.2.1 dX1_reckon_205 rfl hl (by decide) rfl (fun ls hl => ?_)
      exact lp1_rF S hA hRm hcs hL.2 hR.2 hg hlt (fun H locs ls w => hret H locs 334 ls (ok, nI Ln, nI Rn, bs, nI 1, nI (zp_pr Rn g Ln), nI (zp_wt g Ln), nI (zp_lk g Ln), wy) w ⟨bs, rfl⟩ dX1_reckon_334) (2 ^ Ln + 1) 0 (by omega) (Nat.zero_le _) H locs ls w (lv_sub hl [1, 0] rfl)
    · exact absurd rfl h
  · refine zm_ifeq S (tgt := 8) (by decide) dX1_reckon_4 (by decide) (fun h => ?_) (fun h => ?_)
    · exact absurd h (by decide)
    · exact hret _ _ 7 ls (ok, nI Ln, nI Rn, bs, nI 1, nI (zp_pr Rn g Ln), nI (zp_wt g Ln), nI (zp_lk g Ln), wy) w ⟨bs, rfl⟩ dX1_reckon_7
set_option maxHeartbeats 4000000 in
set_option maxRecDepth 100000 in
theorem ct_most1 (l : Launch) (D : va_G) (a : Nat → Nat) (ca : Nat → ClassId) (Ln Rn : Nat) (g : Nat → Nat) (ok bs : Nat → Int32) (kn pr wt lk : Int32) (wy : Nat → Int64) (hL : 0 < Ln ∧ Ln ≤ 8) (hR : 0 < Rn ∧ Rn ≤ 8) (hg : zm_g g ok) (hlt : ∀ i, g i < 2 ^ Rn) (hkn : kn = nI 0 ∨ (kn = nI 1 ∧ pr = nI (zp_pr Rn g Ln) ∧ wt = nI (zp_wt g Ln) ∧ lk = nI (zp_lk g Ln))) : zCi l yX1_most cX1_most 1 .int (zr 2 46) D (zf_1 a ca) (zt_1 ca) [.ref (a 0)] (ok, nI Ln, nI Rn, bs, kn, pr, wt, lk, wy) (fun r u => ∃ bs' : Nat → Int32, r = nI (zp_pr Rn g Ln) ∧ u = (ok, nI Ln, nI Rn, bs', nI 1, nI (zp_pr Rn g Ln), nI (zp_wt g Ln), nI (zp_lk g Ln), wy)) := by
  refine zmet_i RX1 (by decide) rfl (Nat.le_of_ble_eq_true rfl) ?_
  intro p e s m args below meth c A Q ls S hA w hl hret
  have hl : lv_has ls 1 [(0, .ref (a 0))] := hl
  have w : zW D (zt_1 ca) A s.heap s (zw_1 a ca ok (nI Ln) (nI Rn) bs kn pr wt lk wy) s.heap [] := w
  refine lv_aload_n S.1 S.2.1 dX1_most_0 rfl (lv_at hl 0 rfl) ?_
  refine zcall_v (tyc := zt_1 ca) (tyr := []) (wf := zf_1 a ca) (wr := []) (u := (ok, nI Ln, nI Rn, bs, kn, pr, wt, lk, wy)) (As := []) (rest := []) S hA w (ct_reckon1 l D a ca Ln Rn g ok bs kn pr wt lk wy hL hR hg hlt hkn) (cwV 0 S.2.2.2.2 (lw_V q130 q132 qs2 q5 q133) rfl rfl rfl (by decide +kernel) ⟨by decide, by decide⟩) (va_recv (ci := 1) (q0 := 0) w.1 w.2.1 rfl rfl) rfl hl.1 rfl (Nat.le_of_ble_eq_true rfl) ⟨Nat.zero_le _, Nat.zero_le _⟩ dX1_most_1 (fun u H locs hp w => ?_)
  obtain ⟨bs', rfl⟩ := hp
  have w : zW D (zt_1 ca) A s.heap s (zw_1 a ca ok (nI Ln) (nI Rn) bs' (nI 1) (nI (zp_pr Rn g Ln)) (nI (zp_wt g Ln)) (nI (zp_lk g Ln)) wy) H locs := w
  refine lv_aload_n S.1 S.2.1 dX1_most_4 rfl (lv_at hl 0 rfl) ?_
  refine g1_pr S w dX1_most_5 ?_
  exact hret H locs 8 ls (ok, nI Ln, nI Rn, bs', nI 1, nI (zp_pr Rn g Ln), nI (zp_wt g Ln), nI (zp_lk g Ln), wy) _ w ⟨bs', rfl, rfl⟩ rfl dX1_most_8
set_option maxHeartbeats 4000000 in
set_option maxRecDepth 100000 in
theorem ct_watchers1 (l : Launch) (D : va_G) (a : Nat → Nat) (ca : Nat → ClassId) (Ln Rn : Nat) (g : Nat → Nat) (ok bs : Nat → Int32) (kn pr wt lk : Int32) (wy : Nat → Int64) (hL : 0 < Ln ∧ Ln ≤ 8) (hR : 0 < Rn ∧ Rn ≤ 8) (hg : zm_g g ok) (hlt : ∀ i, g i < 2 ^ Rn) (hkn : kn = nI 0 ∨ (kn = nI 1 ∧ pr = nI (zp_pr Rn g Ln) ∧ wt = nI (zp_wt g Ln) ∧ lk = nI (zp_lk g Ln))) : zCi l yX1_watchers cX1_watchers 1 .int (zr 2 46) D (zf_1 a ca) (zt_1 ca) [.ref (a 0)] (ok, nI Ln, nI Rn, bs, kn, pr, wt, lk, wy) (fun r u => ∃ bs' : Nat → Int32, r = nI (zp_wt g Ln) ∧ u = (ok, nI Ln, nI Rn, bs', nI 1, nI (zp_pr Rn g Ln), nI (zp_wt g Ln), nI (zp_lk g Ln), wy)) := by
  refine zmet_i RX1 (by decide) rfl (Nat.le_of_ble_eq_true rfl) ?_
  intro p e s m args below meth c A Q ls S hA w hl hret
  have hl : lv_has ls 1 [(0, .ref (a 0))] := hl
  have w : zW D (zt_1 ca) A s.heap s (zw_1 a ca ok (nI Ln) (nI Rn) bs kn pr wt lk wy) s.heap [] := w
  refine lv_aload_n S.1 S.2.1 dX1_watchers_0 rfl (lv_at hl 0 rfl) ?_
  refine zcall_v (tyc := zt_1 ca) (tyr := []) (wf := zf_1 a ca) (wr := []) (u := (ok, nI Ln, nI Rn, bs, kn, pr, wt, lk, wy)) (As := []) (rest := []) S hA w (ct_reckon1 l D a ca Ln Rn g ok bs kn pr wt lk wy hL hR hg hlt hkn) (cwV 0 S.2.2.2.2 (lw_V q130 q132 qs2 q5 q133) rfl rfl rfl (by decide +kernel) ⟨by decide, by decide⟩) (va_recv (ci := 1) (q0 := 0) w.1 w.2.1 rfl rfl) rfl hl.1 rfl (Nat.le_of_ble_eq_true rfl) ⟨Nat.zero_le _, Nat.zero_le _⟩ dX1_watchers_1 (fun u H locs hp w => ?_)
  obtain ⟨bs', rfl⟩ := hp
  have w : zW D (zt_1 ca) A s.heap s (zw_1 a ca ok (nI Ln) (nI Rn) bs' (nI 1) (nI (zp_pr Rn g Ln)) (nI (zp_wt g Ln)) (nI (zp_lk g Ln)) wy) H locs := w
  refine lv_aload_n S.1 S.2.1 dX1_watchers_4 rfl (lv_at hl 0 rfl) ?_
  refine g1_wt S w dX1_watchers_5 ?_
  exact hret H locs 8 ls (ok, nI Ln, nI Rn, bs', nI 1, nI (zp_pr Rn g Ln), nI (zp_wt g Ln), nI (zp_lk g Ln), wy) _ w ⟨bs', rfl, rfl⟩ rfl dX1_watchers_8
set_option maxHeartbeats 4000000 in
set_option maxRecDepth 100000 in
theorem ct_lack1 (l : Launch) (D : va_G) (a : Nat → Nat) (ca : Nat → ClassId) (Ln Rn : Nat) (g : Nat → Nat) (ok bs : Nat → Int32) (kn pr wt lk : Int32) (wy : Nat → Int64) (hL : 0 < Ln ∧ Ln ≤ 8) (hR : 0 < Rn ∧ Rn ≤ 8) (hg : zm_g g ok) (hlt : ∀ i, g i < 2 ^ Rn) (hkn : kn = nI 0 ∨ (kn = nI 1 ∧ pr = nI (zp_pr Rn g Ln) ∧ wt = nI (zp_wt g Ln) ∧ lk = nI (zp_lk g Ln))) : zCi l yX1_lack cX1_lack 1 .int (zr 2 46) D (zf_1 a ca) (zt_1 ca) [.ref (a 0)] (ok, nI Ln, nI Rn, bs, kn, pr, wt, lk, wy) (fun r u => ∃ bs' : Nat → Int32, r = nI (zp_lk g Ln) ∧ u = (ok, nI Ln, nI Rn, bs', nI 1, nI (zp_pr Rn g Ln), nI (zp_wt g Ln), nI (zp_lk g Ln), wy)) := by
  refine zmet_i RX1 (by decide) rfl (Nat.le_of_ble_eq_true rfl) ?_
  intro p e s m args below meth c A Q ls S hA w hl hret
  have hl : lv_has ls 1 [(0, .ref (a 0))] := hl
  have w : zW D (zt_1 ca) A s.heap s (zw_1 a ca ok (nI Ln) (nI Rn) bs kn pr wt lk wy) s.heap [] := w
  refine lv_aload_n S.1 S.2.1 dX1_lack_0 rfl (lv_at hl 0 rfl) ?_
  refine zcall_v (tyc := zt_1 ca) (tyr := []) (wf := zf_1 a ca) (wr := []) (u := (ok, nI Ln, nI Rn, bs, kn, pr, wt, lk, wy)) (As := []) (rest := []) S hA w (ct_reckon1 l D a ca Ln Rn g ok bs kn pr wt lk wy hL hR hg hlt hkn) (cwV 0 S.2.2.2.2 (lw_V q130 q132 qs2 q5 q133) rfl rfl rfl (by decide +kernel) ⟨by decide, by decide⟩) (va_recv (ci := 1) (q0 := 0) w.1 w.2.1 rfl rfl) rfl hl.1 rfl (Nat.le_of_ble_eq_true rfl) ⟨Nat.zero_le _, Nat.zero_le _⟩ dX1_lack_1 (fun u H locs hp w => ?_)
  obtain ⟨bs', rfl⟩ := hp
  have w : zW D (zt_1 ca) A s.heap s (zw_1 a ca ok (nI Ln) (nI Rn) bs' (nI 1) (nI (zp_pr Rn g Ln)) (nI (zp_wt g Ln)) (nI (zp_lk g Ln)) wy) H locs := w
  refine lv_aload_n S.1 S.2.1 dX1_lack_4 rfl (lv_at hl 0 rfl) ?_
  refine g1_lk S w dX1_lack_5 ?_
  exact hret H locs 8 ls (ok, nI Ln, nI Rn, bs', nI 1, nI (zp_pr Rn g Ln), nI (zp_wt g Ln), nI (zp_lk g Ln), wy) _ w ⟨bs', rfl, rfl⟩ rfl dX1_lack_8
end
section
/-! MateDeskModel: full -/
section X1d
variable {p : Program} {l : Launch} {e : Env} {R : Room} {s : State} {m : MethodId} {args : Array Value} {below : List Frame} {meth : Method} {c : Code} {cells slots : Nat} {Q : State → Prop}
variable {D : va_G} {A : Nat → Prop} {H0 : Heap} {a : Nat → Nat} {ca : Nat → ClassId}
variable {Ln Rn : Nat} {g : Nat → Nat} {ok bs : Nat → Int32} {kn pr wt lk : Int32} {wy : Nat → Int64}
set_option maxHeartbeats 4000000 in
set_option maxRecDepth 100000 in
theorem lp1_fA (S : CallFix p m c cX1_full 6 s args lw_all RX1) (kk : ∀ (wy : Nat → Int64) (H : Heap) (locs : List Loc) (ls : Array Slot), (∀ j, j < 256 → wy j = zp_V Rn g 0 j) → zW D (zt_1 ca) A H0 s (zw_1 a ca ok (nI Ln) (nI Rn) bs kn pr wt lk wy) H locs → lv_has ls 6 [(0, .ref (a 0))] → W p l e R s m args below meth c H locs cells slots Q (F0 m 43 ls [])) : ∀ (n i : Nat) (wy : Nat → Int64), 257 ≤ i + n → i ≤ 256 → (∀ j, j < i → wy j = zp_V Rn g 0 j) → ∀ (H : Heap) (locs : List Loc) (ls : Array Slot), zW D (zt_1 ca) A H0 s (zw_1 a ca ok (nI Ln) (nI Rn) bs kn pr wt lk wy) H locs → lv_has ls 6 [(0, .ref (a 0)), (1, .int (nI i))] → W p l e R s m args below meth c H locs cells slots Q (F0 m 15 ls []) := by
  intro n
  induction n with
  | zero =>
    intro i wy h1 h2
    exact absurd h1 (by omega)
  | succ n ih =>
    intro i wy h1 h2 h3 H locs ls w hl
    refine lv_iload_n S.1 S.2.1 dX1_full_15 rfl (lv_at hl 1 rfl) ?_
    refine lv_sipush (v := nI 256) S.1 S.2.1 dX1_full_16 (by decide) ?_
    refine zm_ge S (tgt := 43) (by omega) (by decide) dX1_full_19 (by decide) (fun h => ?_) (fun h => ?_)
    · exact kk wy H locs ls (fun j hj => h3 j (by omega)) w (lv_sub hl [0] rfl)
    · refine lv_aload_n S.1 S.2.1 dX1_full_22 rfl (lv_at hl 0 rfl) ?_
      refine g1_wy S w dX1_full_23 ?_
      refine lv_iload_n S.1 S.2.1 dX1_full_26 rfl (lv_at hl 1 rfl) ?_
      refine lv_iload_n S.1 S.2.1 dX1_full_27 rfl (lv_at hl 1 rfl) ?_
      refine zm_ifne S (tgt := 35) (by omega) dX1_full_28 (by decide) (fun h4 => ?_) (fun h4 => ?_)
      · refine lv_lconst (v := 0) S.1 S.2.1 dX1_full_35 (by decide) ?_
        refine st1_wy S w (by omega) dX1_full_36 (fun H locs w => ?_)
        refine lv_iinc (v := nI (i + 1)) (lv' := [(1, .int (nI (i + 1))), (0, .ref (a 0))]) S.1 S.2.1 dX1_full_37 hl (k := 1) rfl (zm_inc _) (by decide) rfl (fun ls hl => ?_)
        refine lv_goto (tgt := 15) S.1 S.2.1 dX1_full_40 (by decide) ?_
        refine ih (i + 1) (vp_updL wy i 0) (by omega) (by omega) (fun j hj => ?_) H locs ls w (lv_sub hl [1, 0] rfl)
        by_cases e : j = i
        · rw [e, pk_uLs, zp_V_0 (by omega), if_neg h4]
        · rw [pk_uLn e]
          exact h3 j (by omega)
      · refine lv_lconst (v := 1) S.1 S.2.1 dX1_full_31 (by decide) ?_
        refine lv_goto (tgt := 36) S.1 S.2.1 dX1_full_32 (by decide) ?_
        refine st1_wy S w (by omega) dX1_full_36 (fun H locs w => ?_)
        refine lv_iinc (v := nI (i + 1)) (lv' := [(1, .int (nI (i + 1))), (0, .ref (a 0))]) S.1 S.2.1 dX1_full_37 hl (k := 1) rfl (zm_inc _) (by decide) rfl (fun ls hl => ?_)
        refine lv_goto (tgt := 15) S.1 S.2.1 dX1_full_40 (by decide) ?_
        refine ih (i + 1) (vp_updL wy i 1) (by omega) (by omega) (fun j hj => ?_) H locs ls w (lv_sub hl [1, 0] rfl)
        by_cases e : j = i
        · rw [e, pk_uLs, zp_V_0 (by omega), if_pos h4]
        · rw [pk_uLn e]
          exact h3 j (by omega)
set_option maxHeartbeats 4000000 in
set_option maxRecDepth 100000 in
theorem lp1_fD (S : CallFix p m c cX1_full 6 s args lw_all RX1) {x i : Nat} {H : Heap} {locs : List Loc} (hR : Rn ≤ 8) (hx : x < 8) (hi : i < 2 ^ Rn) (hg : zm_g g ok) (hlt : ∀ i, g i < 2 ^ Rn) (hwy : ∀ j, j < i → wy j = zp_V Rn g x j) (w : zW D (zt_1 ca) A H0 s (zw_1 a ca ok (nI Ln) (nI Rn) bs kn pr wt lk wy) H locs) (kk : ∀ (sm : Int64) (ls : Array Slot), sm = zp_S Rn (fun b => if (i.testBit b && (g x).testBit b) = true then zp_V Rn g x (zp_clr i b) else 0) → lv_has ls 6 [(0, .ref (a 0)), (1, .int (nI x)), (2, .int (nI i)), (3, .long sm)] → W p l e R s m args below meth c H locs cells slots Q (F0 m 135 ls [])) : ∀ (n b : Nat) (sm : Int64), Rn + 1 ≤ b + n → b ≤ Rn → sm = zp_S b (fun b => if (i.testBit b && (g x).testBit b) = true then zp_V Rn g x (zp_clr i b) else 0) → ∀ (ls : Array Slot), lv_has ls 6 [(0, .ref (a 0)), (1, .int (nI x)), (2, .int (nI i)), (3, .long sm), (5, .int (nI b))] → W p l e R s m args below meth c H locs cells slots Q (F0 m 81 ls []) := by
  have hp := zp_pow hR
  have hgx : g x < 256 := Nat.lt_of_lt_of_le (hlt x) hp
  intro n
  induction n with
  | zero =>
    intro b sm h1 h2
    exact absurd h1 (by omega)
  | succ n ih =>
    intro b sm h1 h2 h3 ls hl
    refine lv_iload S.1 S.2.1 dX1_full_81 (lv_at hl 4 rfl) ?_
    refine lv_aload_n S.1 S.2.1 dX1_full_83 rfl (lv_at hl 0 rfl) ?_
    refine g1_mm S w dX1_full_84 ?_
    refine zm_ge S (tgt := 135) (by omega) (by omega) dX1_full_87 (by decide) (fun h => ?_) (fun h => ?_)
    · have e : b = Rn := by omega
      subst e
      exact kk sm ls h3 (lv_sub hl [0, 1, 2, 3] rfl)
    · refine lv_iload_n S.1 S.2.1 dX1_full_90 rfl (lv_at hl 2 rfl) ?_
      refine lv_iload S.1 S.2.1 dX1_full_91 (lv_at hl 4 rfl) ?_
      refine zm_bit S (by omega) (by omega) dX1_full_93 dX1_full_94 dX1_full_95 ?_
      refine zm_bif S (tgt := 129) dX1_full_96 (by decide) (fun hb1 => ?_) (fun hb1 => ?_)
      · refine lv_iinc (v := nI (b + 1)) (lv' := [(5, .int (nI (b + 1))), (0, .ref (a 0)), (1, .int (nI x)), (2, .int (nI i)), (3, .long sm)]) S.1 S.2.1 dX1_full_129 hl (k := 4) rfl (zm_inc _) (by decide) rfl (fun ls hl => ?_)
        refine lv_goto (tgt := 81) S.1 S.2.1 dX1_full_132 (by decide) ?_
        refine ih (b + 1) sm (by omega) (by omega) ?_ ls (lv_sub hl [1, 2, 3, 4, 0] rfl)
        simp only [zp_S]
        rw [if_neg (by rw [hb1]; simp), ← h3]
        exact (zl_0 sm).symm
      · refine lv_aload_n S.1 S.2.1 dX1_full_99 rfl (lv_at hl 0 rfl) ?_
        refine g1_ok S w dX1_full_100 ?_
        refine lv_iload_n S.1 S.2.1 dX1_full_103 rfl (lv_at hl 1 rfl) ?_
        refine ld1_ok (v := nI (g x)) S w (by omega) (hg _ hx) dX1_full_104 ?_
        refine lv_iload S.1 S.2.1 dX1_full_105 (lv_at hl 4 rfl) ?_
        refine zm_bit S (hgx) (by omega) dX1_full_107 dX1_full_108 dX1_full_109 ?_
        refine zm_bif S (tgt := 129) dX1_full_110 (by decide) (fun hb2 => ?_) (fun hb2 => ?_)
        · refine lv_iinc (v := nI (b + 1)) (lv' := [(5, .int (nI (b + 1))), (0, .ref (a 0)), (1, .int (nI x)), (2, .int (nI i)), (3, .long sm)]) S.1 S.2.1 dX1_full_129 hl (k := 4) rfl (zm_inc _) (by decide) rfl (fun ls hl => ?_)
          refine lv_goto (tgt := 81) S.1 S.2.1 dX1_full_132 (by decide) ?_
          refine ih (b + 1) sm (by omega) (by omega) ?_ ls (lv_sub hl [1, 2, 3, 4, 0] rfl)
          simp only [zp_S]
          rw [if_neg (by rw [hb2]; simp), ← h3]
          exact (zl_0 sm).symm
        · have hcl := zp_clr_lt i (by omega) b (by omega) hb1
          refine lv_lload_n S.1 S.2.1 dX1_full_113 rfl (lv_at hl 3 rfl) ?_
          refine lv_aload_n S.1 S.2.1 dX1_full_114 rfl (lv_at hl 0 rfl) ?_
          refine g1_wy S w dX1_full_115 ?_
          refine lv_iload_n S.1 S.2.1 dX1_full_118 rfl (lv_at hl 2 rfl) ?_
          refine lv_iconst (v := nI 1) S.1 S.2.1 dX1_full_119 (by decide) ?_
          refine lv_iload S.1 S.2.1 dX1_full_120 (lv_at hl 4 rfl) ?_
          refine zm_shl S (by omega) dX1_full_122 ?_
          refine zm_clr S (by omega) (by omega) dX1_full_123 dX1_full_124 dX1_full_125 ?_
          refine ld1_wy (v := zp_V Rn g x (zp_clr i b)) S w (by omega) (hwy _ hcl) dX1_full_126 ?_
          refine lv_ladd S.1 S.2.1 dX1_full_127 ?_
          refine lv_lstore_n (lv' := [(3, .long (sm + zp_V Rn g x (zp_clr i b))), (0, .ref (a 0)), (1, .int (nI x)), (2, .int (nI i)), (5, .int (nI b))]) S.1 S.2.1 dX1_full_128 rfl hl (by decide) rfl (fun ls hl => ?_)
          refine lv_iinc (v := nI (b + 1)) (lv' := [(5, .int (nI (b + 1))), (3, .long (sm + zp_V Rn g x (zp_clr i b))), (0, .ref (a 0)), (1, .int (nI x)), (2, .int (nI i))]) S.1 S.2.1 dX1_full_129 hl (k := 4) rfl (zm_inc _) (by decide) rfl (fun ls hl => ?_)
          refine lv_goto (tgt := 81) S.1 S.2.1 dX1_full_132 (by decide) ?_
          refine ih (b + 1) (sm + zp_V Rn g x (zp_clr i b)) (by omega) (by omega) ?_ ls (lv_sub hl [2, 3, 4, 1, 0] rfl)
          simp only [zp_S]
          rw [if_pos (by rw [hb1, hb2]; rfl), ← h3]
set_option maxHeartbeats 4000000 in
set_option maxRecDepth 100000 in
theorem lp1_fC (S : CallFix p m c cX1_full 6 s args lw_all RX1) {x : Nat} (hA : ∀ q, H0.size ≤ q → A q) (hRm : 1 ≤ R.frames ∧ 22 ≤ R.locals) (hcs : cells ≤ R.cells ∧ slots ≤ R.slots) (hR : Rn ≤ 8) (hx : x < 8) (hg : zm_g g ok) (hlt : ∀ i, g i < 2 ^ Rn) (kk : ∀ (wy : Nat → Int64) (H : Heap) (locs : List Loc) (ls : Array Slot), (∀ j, j < 2 ^ Rn → wy j = zp_V Rn g (x + 1) j) → zW D (zt_1 ca) A H0 s (zw_1 a ca ok (nI Ln) (nI Rn) bs kn pr wt lk wy) H locs → lv_has ls 6 [(0, .ref (a 0)), (1, .int (nI x))] → W p l e R s m args below meth c H locs cells slots Q (F0 m 148 ls [])) : ∀ (t : Nat) (wy : Nat → Int64), t ≤ 2 ^ Rn → (∀ j, j < 2 ^ Rn → wy j = if t ≤ j then zp_V Rn g (x + 1) j else zp_V Rn g x j) → ∀ (H : Heap) (locs : List Loc) (ls : Array Slot), zW D (zt_1 ca) A H0 s (zw_1 a ca ok (nI Ln) (nI Rn) bs kn pr wt lk wy) H locs → lv_has ls 6 [(0, .ref (a 0)), (1, .int (nI x)), (2, .int (zm_d t))] → W p l e R s m args below meth c H locs cells slots Q (F0 m 62 ls []) := by
  have hp := zp_pow hR
  intro t
  induction t with
  | zero =>
    intro wy h2 h3 H locs ls w hl
    refine lv_iload_n S.1 S.2.1 dX1_full_62 rfl (lv_at hl 2 rfl) ?_
    refine zm_ifltd S (tgt := 148) (by decide) dX1_full_63 (by decide) (fun h => ?_) (fun h => ?_)
    · exact kk wy H locs ls (fun j hj => by rw [h3 j hj, if_pos (Nat.zero_le j)]) w (lv_sub hl [0, 1] rfl)
    · exact absurd h (by omega)
  | succ i ih =>
    intro wy h2 h3 H locs ls w hl
    refine lv_iload_n S.1 S.2.1 dX1_full_62 rfl (lv_at hl 2 rfl) ?_
    refine zm_ifltd S (tgt := 148) (by omega) dX1_full_63 (by decide) (fun h => ?_) (fun h => ?_)
    · exact absurd h (by omega)
    · rw [zm_dd] at hl
      refine lv_lconst (v := 0) S.1 S.2.1 dX1_full_66 (by decide) ?_
      refine lv_lstore_n (lv' := [(3, .long 0), (0, .ref (a 0)), (1, .int (nI x)), (2, .int (nI i))]) S.1 S.2.1 dX1_full_67 rfl hl (by decide) rfl (fun ls hl => ?_)
      refine lv_iload_n S.1 S.2.1 dX1_full_68 rfl (lv_at hl 3 rfl) ?_
      have hpc := zp_pc_le (v := i)
      refine zcall_s (As := [.int (nI i)]) (rest := []) S hA w (ct_count1 l D i (by omega)) (va_cwS 1 S.2.2.2.2 (lw_S q134 q135 q5 q136) rfl rfl rfl (by decide +kernel) ⟨hRm.1, hRm.2⟩) rfl hl.1 rfl (Nat.le_of_ble_eq_true rfl) hcs dX1_full_69 (fun r H locs hr w => ?_)
      subst hr
      refine lv_iload_n S.1 S.2.1 dX1_full_72 rfl (lv_at hl 2 rfl) ?_
      refine lv_iconst (v := nI 1) S.1 S.2.1 dX1_full_73 (by decide) ?_
      refine zm_iadd S dX1_full_74 ?_
      refine zm_ne S (tgt := 142) (by omega) (by omega) dX1_full_75 (by decide) (fun h4 => ?_) (fun h4 => ?_)
      · refine lv_iinc (v := zm_d i) (lv' := [(2, .int (zm_d i)), (3, .long 0), (0, .ref (a 0)), (1, .int (nI x))]) S.1 S.2.1 dX1_full_142 hl (k := 3) rfl (rfl) (by decide) rfl (fun ls hl => ?_)
        refine lv_goto (tgt := 62) S.1 S.2.1 dX1_full_145 (by decide) ?_
        refine ih wy (by omega) (fun j hj => ?_) H locs ls w (lv_sub hl [2, 3, 0] rfl)
        rw [h3 j hj]
        by_cases e : j = i
        · rw [e, if_neg (by omega), if_pos (Nat.le_refl i), zp_V_same h4]
        · by_cases e2 : i ≤ j
          · rw [if_pos e2, if_pos (by omega)]
          · rw [if_neg e2, if_neg (by omega)]
      · refine lv_iconst (v := nI 0) S.1 S.2.1 dX1_full_78 (by decide) ?_
        refine lv_istore (lv' := [(5, .int (nI 0)), (3, .long 0), (0, .ref (a 0)), (1, .int (nI x)), (2, .int (nI i))]) S.1 S.2.1 dX1_full_79 hl (by decide) rfl (fun ls hl => ?_)
        refine lp1_fD S hR hx (by omega) hg hlt (fun j hj => by rw [h3 j (by omega), if_neg (by omega)]) w (fun sm ls hsm hl => ?_) (Rn + 1) 0 0 (by omega) (by omega) rfl ls (lv_sub hl [2, 3, 4, 1, 0] rfl)
        refine lv_aload_n S.1 S.2.1 dX1_full_135 rfl (lv_at hl 0 rfl) ?_
        refine g1_wy S w dX1_full_136 ?_
        refine lv_iload_n S.1 S.2.1 dX1_full_139 rfl (lv_at hl 2 rfl) ?_
        refine lv_lload_n S.1 S.2.1 dX1_full_140 rfl (lv_at hl 3 rfl) ?_
        refine st1_wy S w (by omega) dX1_full_141 (fun H locs w => ?_)
        refine lv_iinc (v := zm_d i) (lv' := [(2, .int (zm_d i)), (0, .ref (a 0)), (1, .int (nI x)), (3, .long sm)]) S.1 S.2.1 dX1_full_142 hl (k := 2) rfl (rfl) (by decide) rfl (fun ls hl => ?_)
        refine lv_goto (tgt := 62) S.1 S.2.1 dX1_full_145 (by decide) ?_
        refine ih (vp_updL wy i sm) (by omega) (fun j hj => ?_) H locs ls w (lv_sub hl [1, 2, 0] rfl)
        by_cases e : j = i
        · rw [e, pk_uLs, if_pos (Nat.le_refl i), hsm, zp_V_new hR (by omega) h4]
        · rw [pk_uLn e, h3 j hj]
          by_cases e2 : i ≤ j
          · rw [if_pos e2, if_pos (by omega)]
          · rw [if_neg e2, if_neg (by omega)]
set_option maxHeartbeats 4000000 in
set_option maxRecDepth 100000 in
theorem lp1_fB (S : CallFix p m c cX1_full 6 s args lw_all RX1) (hA : ∀ q, H0.size ≤ q → A q) (hRm : 1 ≤ R.frames ∧ 22 ≤ R.locals) (hcs : cells ≤ R.cells ∧ slots ≤ R.slots) (hL : Ln ≤ 8) (hR : Rn ≤ 8) (hg : zm_g g ok) (hlt : ∀ i, g i < 2 ^ Rn) (kk : ∀ (wy : Nat → Int64) (H : Heap) (locs : List Loc) (ls : Array Slot), (∀ j, j < 2 ^ Rn → wy j = zp_V Rn g Ln j) → zW D (zt_1 ca) A H0 s (zw_1 a ca ok (nI Ln) (nI Rn) bs kn pr wt lk wy) H locs → lv_has ls 6 [(0, .ref (a 0))] → W p l e R s m args below meth c H locs cells slots Q (F0 m 154 ls [])) : ∀ (n x : Nat) (wy : Nat → Int64), Ln + 1 ≤ x + n → x ≤ Ln → (∀ j, j < 2 ^ Rn → wy j = zp_V Rn g x j) → ∀ (H : Heap) (locs : List Loc) (ls : Array Slot), zW D (zt_1 ca) A H0 s (zw_1 a ca ok (nI Ln) (nI Rn) bs kn pr wt lk wy) H locs → lv_has ls 6 [(0, .ref (a 0)), (1, .int (nI x))] → W p l e R s m args below meth c H locs cells slots Q (F0 m 45 ls []) := by
  have hp := zp_pow hR
  intro n
  induction n with
  | zero =>
    intro x wy h1 h2
    exact absurd h1 (by omega)
  | succ n ih =>
    intro x wy h1 h2 h3 H locs ls w hl
    refine lv_iload_n S.1 S.2.1 dX1_full_45 rfl (lv_at hl 1 rfl) ?_
    refine lv_aload_n S.1 S.2.1 dX1_full_46 rfl (lv_at hl 0 rfl) ?_
    refine g1_nn S w dX1_full_47 ?_
    refine zm_ge S (tgt := 154) (by omega) (by omega) dX1_full_50 (by decide) (fun h => ?_) (fun h => ?_)
    · have e : x = Ln := by omega
      subst e
      exact kk wy H locs ls h3 w (lv_sub hl [0] rfl)
    · refine lv_iconst (v := nI 1) S.1 S.2.1 dX1_full_53 (by decide) ?_
      refine lv_aload_n S.1 S.2.1 dX1_full_54 rfl (lv_at hl 0 rfl) ?_
      refine g1_mm S w dX1_full_55 ?_
      refine zm_shl S (by omega) dX1_full_58 ?_
      refine lv_iconst (v := nI 1) S.1 S.2.1 dX1_full_59 (by decide) ?_
      refine lv_isub S.1 S.2.1 dX1_full_60 ?_
      refine zm_top (zm_ds _) ?_
      refine lv_istore_n (lv' := [(2, .int (zm_d (2 ^ Rn))), (0, .ref (a 0)), (1, .int (nI x))]) S.1 S.2.1 dX1_full_61 rfl hl (by decide) rfl (fun ls hl => ?_)
      refine lp1_fC S hA hRm hcs hR (by omega) hg hlt (fun wy H locs ls h4 w hl => ?_) (2 ^ Rn) wy (Nat.le_refl _) (fun j hj => by rw [h3 j hj, if_neg (by omega)]) H locs ls w (lv_sub hl [1, 2, 0] rfl)
      refine lv_iinc (v := nI (x + 1)) (lv' := [(1, .int (nI (x + 1))), (0, .ref (a 0))]) S.1 S.2.1 dX1_full_148 hl (k := 1) rfl (zm_inc _) (by decide) rfl (fun ls hl => ?_)
      refine lv_goto (tgt := 45) S.1 S.2.1 dX1_full_151 (by decide) ?_
      exact ih (x + 1) wy (by omega) (by omega) h4 H locs ls w (lv_sub hl [1, 0] rfl)
set_option maxHeartbeats 4000000 in
set_option maxRecDepth 100000 in
theorem lp1_fE (S : CallFix p m c cX1_full 6 s args lw_all RX1) (hA : ∀ q, H0.size ≤ q → A q) (hRm : 1 ≤ R.frames ∧ 22 ≤ R.locals) (hcs : cells ≤ R.cells ∧ slots ≤ R.slots) (hL : Ln ≤ 8) (hR : Rn ≤ 8) (hwy : ∀ j, j < 2 ^ Rn → wy j = zp_V Rn g Ln j) (kk : ∀ (H : Heap) (locs : List Loc) (ls : Array Slot), zW D (zt_1 ca) A H0 s (zw_1 a ca ok (nI Ln) (nI Rn) bs kn pr wt lk wy) H locs → W p l e R s m args below meth c H locs cells slots Q (F0 m 195 ls [.long (zp_full Rn g Ln)])) : ∀ (n i : Nat) (sm : Int64), 2 ^ Rn + 1 ≤ i + n → i ≤ 2 ^ Rn → sm = zp_S i (fun s => if zp_pc s = Ln then zp_V Rn g Ln s else 0) → ∀ (H : Heap) (locs : List Loc) (ls : Array Slot), zW D (zt_1 ca) A H0 s (zw_1 a ca ok (nI Ln) (nI Rn) bs kn pr wt lk wy) H locs → lv_has ls 6 [(0, .ref (a 0)), (1, .long sm), (3, .int (nI i))] → W p l e R s m args below meth c H locs cells slots Q (F0 m 158 ls []) := by
  have hp := zp_pow hR
  intro n
  induction n with
  | zero =>
    intro i sm h1 h2
    exact absurd h1 (by omega)
  | succ n ih =>
    intro i sm h1 h2 h3 H locs ls w hl
    refine lv_iload_n S.1 S.2.1 dX1_full_158 rfl (lv_at hl 2 rfl) ?_
    refine lv_iconst (v := nI 1) S.1 S.2.1 dX1_full_159 (by decide) ?_
    refine lv_aload_n S.1 S.2.1 dX1_full_160 rfl (lv_at hl 0 rfl) ?_
    refine g1_mm S w dX1_full_161 ?_
    refine zm_shl S (by omega) dX1_full_164 ?_
    refine zm_ge S (tgt := 194) (by omega) (by omega) dX1_full_165 (by decide) (fun h => ?_) (fun h => ?_)
    · have e : i = 2 ^ Rn := by omega
      subst e
      refine lv_lload_n S.1 S.2.1 dX1_full_194 rfl (lv_at hl 1 rfl) ?_
      refine zm_topl (h3.trans (zp_full_eq hR)) ?_
      exact kk H locs ls w
    · have hpc := zp_pc_le (v := i)
      refine lv_iload_n S.1 S.2.1 dX1_full_168 rfl (lv_at hl 2 rfl) ?_
      refine zcall_s (As := [.int (nI i)]) (rest := []) S hA w (ct_count1 l D i (by omega)) (va_cwS 1 S.2.2.2.2 (lw_S q134 q135 q5 q136) rfl rfl rfl (by decide +kernel) ⟨hRm.1, hRm.2⟩) rfl hl.1 rfl (Nat.le_of_ble_eq_true rfl) hcs dX1_full_169 (fun r H locs hr w => ?_)
      subst hr
      refine lv_aload_n S.1 S.2.1 dX1_full_172 rfl (lv_at hl 0 rfl) ?_
      refine g1_nn S w dX1_full_173 ?_
      refine zm_ne S (tgt := 188) (by omega) (by omega) dX1_full_176 (by decide) (fun h4 => ?_) (fun h4 => ?_)
      · refine lv_iinc (v := nI (i + 1)) (lv' := [(3, .int (nI (i + 1))), (0, .ref (a 0)), (1, .long sm)]) S.1 S.2.1 dX1_full_188 hl (k := 2) rfl (zm_inc _) (by decide) rfl (fun ls hl => ?_)
        refine lv_goto (tgt := 158) S.1 S.2.1 dX1_full_191 (by decide) ?_
        refine ih (i + 1) sm (by omega) (by omega) ?_ H locs ls w (lv_sub hl [1, 2, 0] rfl)
        simp only [zp_S]
        rw [if_neg h4, ← h3]
        exact (zl_0 sm).symm
      · refine lv_lload_n S.1 S.2.1 dX1_full_179 rfl (lv_at hl 1 rfl) ?_
        refine lv_aload_n S.1 S.2.1 dX1_full_180 rfl (lv_at hl 0 rfl) ?_
        refine g1_wy S w dX1_full_181 ?_
        refine lv_iload_n S.1 S.2.1 dX1_full_184 rfl (lv_at hl 2 rfl) ?_
        refine ld1_wy (v := zp_V Rn g Ln i) S w (by omega) (hwy i h) dX1_full_185 ?_
        refine lv_ladd S.1 S.2.1 dX1_full_186 ?_
        refine lv_lstore_n (lv' := [(1, .long (sm + zp_V Rn g Ln i)), (0, .ref (a 0)), (3, .int (nI i))]) S.1 S.2.1 dX1_full_187 rfl hl (by decide) rfl (fun ls hl => ?_)
        refine lv_iinc (v := nI (i + 1)) (lv' := [(3, .int (nI (i + 1))), (1, .long (sm + zp_V Rn g Ln i)), (0, .ref (a 0))]) S.1 S.2.1 dX1_full_188 hl (k := 2) rfl (zm_inc _) (by decide) rfl (fun ls hl => ?_)
        refine lv_goto (tgt := 158) S.1 S.2.1 dX1_full_191 (by decide) ?_
        refine ih (i + 1) (sm + zp_V Rn g Ln i) (by omega) (by omega) ?_ H locs ls w (lv_sub hl [2, 1, 0] rfl)
        simp only [zp_S]
        rw [if_pos h4, ← h3]
end X1d
set_option maxHeartbeats 4000000 in
set_option maxRecDepth 100000 in
theorem ct_full1 (l : Launch) (D : va_G) (a : Nat → Nat) (ca : Nat → ClassId) (Ln Rn : Nat) (g : Nat → Nat) (ok bs : Nat → Int32) (kn pr wt lk : Int32) (wy : Nat → Int64) (hL : 0 < Ln ∧ Ln ≤ 8) (hR : 0 < Rn ∧ Rn ≤ 8) (hg : zm_g g ok) (hlt : ∀ i, g i < 2 ^ Rn) : zCl l yX1_full cX1_full 6 (zr 1 22) D (zf_1 a ca) (zt_1 ca) [.ref (a 0)] (ok, nI Ln, nI Rn, bs, kn, pr, wt, lk, wy) (fun r u => ∃ wy' : Nat → Int64, r = zp_full Rn g Ln ∧ u = (ok, nI Ln, nI Rn, bs, kn, pr, wt, lk, wy')) := by
  refine zmet_l RX1 (by decide) rfl (Nat.le_of_ble_eq_true rfl) ?_
  intro p e s m args below meth c A Q ls S hA w hl hret
  have hl : lv_has ls 6 [(0, .ref (a 0))] := hl
  have w : zW D (zt_1 ca) A s.heap s (zw_1 a ca ok (nI Ln) (nI Rn) bs kn pr wt lk wy) s.heap [] := w
  have hRm : 1 ≤ (zr 1 22).frames ∧ 22 ≤ (zr 1 22).locals := ⟨by decide, by decide⟩
  have hcs : 0 ≤ (zr 1 22).cells ∧ 0 ≤ (zr 1 22).slots := ⟨by decide, by decide⟩
  have hL2 := hL.2
  have hR2 := hR.2
  refine lv_aload_n S.1 S.2.1 dX1_full_0 rfl (lv_at hl 0 rfl) ?_
  refine g1_nn S w dX1_full_1 ?_
  refine lv_aload_n S.1 S.2.1 dX1_full_4 rfl (lv_at hl 0 rfl) ?_
  refine g1_mm S w dX1_full_5 ?_
  refine zm_le S (tgt := 13) (by omega) (by omega) dX1_full_8 (by decide) (fun h => ?_) (fun h => ?_)
  · refine lv_iconst (v := nI 0) S.1 S.2.1 dX1_full_13 (by decide) ?_
    refine lv_istore_n (lv' := [(1, .int (nI 0)), (0, .ref (a 0))]) S.1 S.2.1 dX1_full_14 rfl hl (by decide) rfl (fun ls hl => ?_)
    refine lp1_fA (g := g) S (fun wy H locs ls h1 w hl => ?_) 257 0 wy (by omega) (Nat.zero_le _) (fun j hj => absurd hj (by omega)) _ _ ls w (lv_sub hl [1, 0] rfl)
    refine lv_iconst (v := nI 0) S.1 S.2.1 dX1_full_43 (by decide) ?_
    refine lv_istore_n (lv' := [(1, .int (nI 0)), (0, .ref (a 0))]) S.1 S.2.1 dX1_full_44 rfl hl (by decide) rfl (fun ls hl => ?_)
    refine lp1_fB S hA hRm hcs hL.2 hR.2 hg hlt (fun wy H locs ls h2 w hl => ?_) (Ln + 1) 0 wy (by omega) (Nat.zero_le _) (fun j hj => h1 j (Nat.lt_of_lt_of_le hj (zp_pow hR.2))) H locs ls w (lv_sub hl [1, 0] rfl)
    refine lv_lconst (v := 0) S.1 S.2.1 dX1_full_154 (by decide) ?_
    refine lv_lstore_n (lv' := [(1, .long 0), (0, .ref (a 0))]) S.1 S.2.1 dX1_full_155 rfl hl (by decide) rfl (fun ls hl => ?_)
    refine lv_iconst (v := nI 0) S.1 S.2.1 dX1_full_156 (by decide) ?_
    refine lv_istore_n (lv' := [(3, .int (nI 0)), (1, .long 0), (0, .ref (a 0))]) S.1 S.2.1 dX1_full_157 rfl hl (by decide) rfl (fun ls hl => ?_)
    exact lp1_fE S hA hRm hcs hL.2 hR.2 h2 (fun H locs ls w => hret H locs 195 ls (ok, nI Ln, nI Rn, bs, kn, pr, wt, lk, wy) _ w ⟨wy, rfl, rfl⟩ dX1_full_195) (2 ^ Rn + 1) 0 0 (by omega) (Nat.zero_le _) rfl H locs ls w (lv_sub hl [2, 1, 0] rfl)
  · refine lv_lconst (v := 0) S.1 S.2.1 dX1_full_11 (by decide) ?_
    exact hret _ _ 12 ls (ok, nI Ln, nI Rn, bs, kn, pr, wt, lk, wy) 0 w ⟨wy, (zp_full_z hR.2 h).symm, rfl⟩ dX1_full_12
end
section
/-! the two constructors -/
set_option maxHeartbeats 4000000 in
set_option maxRecDepth 100000 in
theorem ct_init0 (l : Launch) (D : va_G) (h0 sz : Nat) : Met l yX0_init (ws_ yX0_init cX0_init 1 none) ({ frames := 1, cells := 5, slots := 289, locals := 12 }) (va_Pc [.ref h0] (fun U => U.heap.size = sz ∧ va_P D vwCl [(h0, .inr (0, [.int 0, .int 0, .null, .null, .null, .null, .null]))] U.heap ∧ va_K D vwCl [] U ∧ va_D (fun _ => True) [(h0, .inr (0, [.int 0, .int 0, .null, .null, .null, .null, .null]))])) (va_Qv (fun _ : Unit => True) (fun _ t => ∃ (a : Nat → Nat) (ca : Nat → ClassId), a 0 = h0 ∧ va_P D vwCl (zf_0 a ca (nI 4, nI 4, (fun _ => 0), (fun _ => 0), (fun _ => 0), (fun _ => 0), (fun _ => 0))) t.heap ∧ va_K D vwCl (zt_0 ca) t ∧ va_D (va_A [(h0, .inr (0, [.int 0, .int 0, .null, .null, .null, .null, .null]))] sz) (zf_0 a ca (nI 4, nI 4, (fun _ => 0), (fun _ => 0), (fun _ => 0), (fun _ => 0), (fun _ => 0)))) (va_A [(h0, .inr (0, [.int 0, .int 0, .null, .null, .null, .null, .null]))] sz)) 5 289 (va_A [(h0, .inr (0, [.int 0, .int 0, .null, .null, .null, .null, .null]))] sz) := by
  refine Met.ofW (cc := cX0_init) (maxL := 1) (ret := none) (by decide) rfl ?_
  intro p e s m args below meth c s₁ B hml hv
  obtain ⟨rfl, hsz, hP, hK, hD0⟩ := hv
  have hx := B.exec
  have hb := B.bytes
  have hr := B.returns
  have hts := atoms_spec (ws := ws_ yX0_init cX0_init 1 none) B.pre
  have hts : ∀ w ∈ lw_all, w.before _ s = true := fun w h => hts w (List.mem_cons_of_mem _ h)
  have hown : s.vm.findClass RX0 = some m.cls := findClass_of_methodNamed B.named
  have hlocks := B.notSynchronized
  have hin : meth.name = "<init>" := (name_of_methodNamed B.named B.method).1
  subst hsz
  have hD := hD0.self (sz := s.heap.size)
  generalize hAe : va_A [(h0, .inr (0, [.int 0, .int 0, .null, .null, .null, .null, .null]))] s.heap.size = A at hD ⊢
  have hA : ∀ q : Nat, s.heap.size ≤ q → A q := fun q h => by rw [← hAe]; exact Or.inr h
  have hS : va_S A s.heap s.heap [] := va_S.rf
  have hl := lv_entry ([.ref h0]) (n := 1) (Nat.le_of_ble_eq_true rfl)
  rw [lg_entry_eq]
  generalize (lg_sl ([.ref h0]) ++ List.replicate (1 - (lg_sl ([.ref h0])).length) Slot.unset).toArray = ls at hl ⊢
  have hl : lv_has ls 1 [(0, .ref h0)] := hl
  refine lv_aload_n hx hb dX0_init_0 rfl (lv_at hl 0 rfl) ?_
  refine W.objInit hx hb hown (hts _ q11) (hts _ q12) (hts _ q13) rfl (by rw [hml]; exact hl.1) rfl dX0_init_1 (Nat.le_of_ble_eq_true rfl) (Nat.le_of_ble_eq_true rfl) ?_
  refine W.eq (g2 := F0 m 4 ls []) rfl ?_
  refine lv_aload_n hx hb dX0_init_4 rfl (lv_at hl 0 rfl) ?_
  refine lv_iconst (v := nI 4) hx hb dX0_init_5 (by decide) ?_
  refine va_put (D := D) (ci := 0) (v := .int (nI 4)) (ty := .int) (C := RX0) (T := TX0) (N := 7) hx hb hts in_X0 tyX0 tyX0_ok nmX0 hown hK hP hD hS 0 rfl rfl 0 (by decide) (hts _ q14) (fun _ h9 => h9) rfl (by decide +kernel) rfl rfl (Nat.le_of_ble_eq_true rfl) dX0_init_6 (fun H locs hP hD hS => ?_)
  have hP : va_P D vwCl [(h0, .inr (0, [.int (nI 4), .int 0, .null, .null, .null, .null, .null]))] H := hP
  have hD : va_D A [(h0, .inr (0, [.int (nI 4), .int 0, .null, .null, .null, .null, .null]))] := hD
  refine lv_aload_n hx hb dX0_init_9 rfl (lv_at hl 0 rfl) ?_
  refine lv_iconst (v := nI 4) hx hb dX0_init_10 (by decide) ?_
  refine va_put (D := D) (ci := 0) (v := .int (nI 4)) (ty := .int) (C := RX0) (T := TX0) (N := 7) hx hb hts in_X0 tyX0 tyX0_ok nmX0 hown hK hP hD hS 0 rfl rfl 1 (by decide) (hts _ q15) (fun _ h9 => h9) rfl (by decide +kernel) rfl rfl (Nat.le_of_ble_eq_true rfl) dX0_init_11 (fun H locs hP hD hS => ?_)
  have hP : va_P D vwCl [(h0, .inr (0, [.int (nI 4), .int (nI 4), .null, .null, .null, .null, .null]))] H := hP
  have hD : va_D A [(h0, .inr (0, [.int (nI 4), .int (nI 4), .null, .null, .null, .null, .null]))] := hD
  refine lv_aload_n hx hb dX0_init_14 rfl (lv_at hl 0 rfl) ?_
  refine lv_bipush (v := nI 8) hx hb dX0_init_15 (by decide) ?_
  refine va_newa (atype := .int) (ty := .int) (N' := 8) (a0 := (8, .inl (fun _ => 0))) hx hb (hts _ q36) rfl hK hP hD hS hA (fun cA => rfl) (by decide) (by decide) (by decide) (Nat.le_of_ble_eq_true rfl) (Nat.le_of_ble_eq_true rfl) dX0_init_17 (fun q1 c1 H hK hP hD hS => ?_)
  have hP : va_P D vwCl [(h0, .inr (0, [.int (nI 4), .int (nI 4), .null, .null, .null, .null, .null])), (q1, .inl (c1, 8, .inl (fun _ => 0)))] H := hP
  have hD : va_D A [(h0, .inr (0, [.int (nI 4), .int (nI 4), .null, .null, .null, .null, .null])), (q1, .inl (c1, 8, .inl (fun _ => 0)))] := hD
  have hK : va_K D vwCl [(c1, .int)] s := hK
  refine W.widen (k := 1) (n := 8) (Nat.le_of_ble_eq_true rfl) (Nat.le_of_ble_eq_true rfl) ?_
  refine va_putF (D := D) (ci := 0) (v := .ref q1) (ty := .array .int) (C := RX0) (T := TX0) (N := 7) hx hb hts in_X0 tyX0 tyX0_ok nmX0 hown hK hP hD hS 0 rfl rfl 2 (by decide) (hts _ q16) (fun _ h9 => h9) rfl hin rfl (by decide +kernel) rfl rfl (Nat.le_of_ble_eq_true rfl) dX0_init_19 (fun H locs hP hD hS => ?_)
  have hP : va_P D vwCl [(h0, .inr (0, [.int (nI 4), .int (nI 4), .ref q1, .null, .null, .null, .null])), (q1, .inl (c1, 8, .inl (fun _ => 0)))] H := hP
  have hD : va_D A [(h0, .inr (0, [.int (nI 4), .int (nI 4), .ref q1, .null, .null, .null, .null])), (q1, .inl (c1, 8, .inl (fun _ => 0)))] := hD
  refine lv_aload_n hx hb dX0_init_22 rfl (lv_at hl 0 rfl) ?_
  refine lv_bipush (v := nI 8) hx hb dX0_init_23 (by decide) ?_
  refine va_newa (atype := .int) (ty := .int) (N' := 8) (a0 := (8, .inl (fun _ => 0))) hx hb (hts _ q36) rfl hK hP hD hS hA (fun cA => rfl) (by decide) (by decide) (by decide) (Nat.le_of_ble_eq_true rfl) (Nat.le_of_ble_eq_true rfl) dX0_init_25 (fun q2 c2 H hK hP hD hS => ?_)
  have hP : va_P D vwCl [(h0, .inr (0, [.int (nI 4), .int (nI 4), .ref q1, .null, .null, .null, .null])), (q1, .inl (c1, 8, .inl (fun _ => 0))), (q2, .inl (c2, 8, .inl (fun _ => 0)))] H := hP
  have hD : va_D A [(h0, .inr (0, [.int (nI 4), .int (nI 4), .ref q1, .null, .null, .null, .null])), (q1, .inl (c1, 8, .inl (fun _ => 0))), (q2, .inl (c2, 8, .inl (fun _ => 0)))] := hD
  have hK : va_K D vwCl [(c1, .int), (c2, .int)] s := hK
  refine W.widen (k := 2) (n := 16) (Nat.le_of_ble_eq_true rfl) (Nat.le_of_ble_eq_true rfl) ?_
  refine va_putF (D := D) (ci := 0) (v := .ref q2) (ty := .array .int) (C := RX0) (T := TX0) (N := 7) hx hb hts in_X0 tyX0 tyX0_ok nmX0 hown hK hP hD hS 0 rfl rfl 3 (by decide) (hts _ q17) (fun _ h9 => h9) rfl hin rfl (by decide +kernel) rfl rfl (Nat.le_of_ble_eq_true rfl) dX0_init_27 (fun H locs hP hD hS => ?_)
  have hP : va_P D vwCl [(h0, .inr (0, [.int (nI 4), .int (nI 4), .ref q1, .ref q2, .null, .null, .null])), (q1, .inl (c1, 8, .inl (fun _ => 0))), (q2, .inl (c2, 8, .inl (fun _ => 0)))] H := hP
  have hD : va_D A [(h0, .inr (0, [.int (nI 4), .int (nI 4), .ref q1, .ref q2, .null, .null, .null])), (q1, .inl (c1, 8, .inl (fun _ => 0))), (q2, .inl (c2, 8, .inl (fun _ => 0)))] := hD
  refine lv_aload_n hx hb dX0_init_30 rfl (lv_at hl 0 rfl) ?_
  refine lv_bipush (v := nI 8) hx hb dX0_init_31 (by decide) ?_
  refine va_newa (atype := .int) (ty := .int) (N' := 8) (a0 := (8, .inl (fun _ => 0))) hx hb (hts _ q36) rfl hK hP hD hS hA (fun cA => rfl) (by decide) (by decide) (by decide) (Nat.le_of_ble_eq_true rfl) (Nat.le_of_ble_eq_true rfl) dX0_init_33 (fun q3 c3 H hK hP hD hS => ?_)
  have hP : va_P D vwCl [(h0, .inr (0, [.int (nI 4), .int (nI 4), .ref q1, .ref q2, .null, .null, .null])), (q1, .inl (c1, 8, .inl (fun _ => 0))), (q2, .inl (c2, 8, .inl (fun _ => 0))), (q3, .inl (c3, 8, .inl (fun _ => 0)))] H := hP
  have hD : va_D A [(h0, .inr (0, [.int (nI 4), .int (nI 4), .ref q1, .ref q2, .null, .null, .null])), (q1, .inl (c1, 8, .inl (fun _ => 0))), (q2, .inl (c2, 8, .inl (fun _ => 0))), (q3, .inl (c3, 8, .inl (fun _ => 0)))] := hD
  have hK : va_K D vwCl [(c1, .int), (c2, .int), (c3, .int)] s := hK
  refine W.widen (k := 3) (n := 24) (Nat.le_of_ble_eq_true rfl) (Nat.le_of_ble_eq_true rfl) ?_
  refine va_putF (D := D) (ci := 0) (v := .ref q3) (ty := .array .int) (C := RX0) (T := TX0) (N := 7) hx hb hts in_X0 tyX0 tyX0_ok nmX0 hown hK hP hD hS 0 rfl rfl 4 (by decide) (hts _ q18) (fun _ h9 => h9) rfl hin rfl (by decide +kernel) rfl rfl (Nat.le_of_ble_eq_true rfl) dX0_init_35 (fun H locs hP hD hS => ?_)
  have hP : va_P D vwCl [(h0, .inr (0, [.int (nI 4), .int (nI 4), .ref q1, .ref q2, .ref q3, .null, .null])), (q1, .inl (c1, 8, .inl (fun _ => 0))), (q2, .inl (c2, 8, .inl (fun _ => 0))), (q3, .inl (c3, 8, .inl (fun _ => 0)))] H := hP
  have hD : va_D A [(h0, .inr (0, [.int (nI 4), .int (nI 4), .ref q1, .ref q2, .ref q3, .null, .null])), (q1, .inl (c1, 8, .inl (fun _ => 0))), (q2, .inl (c2, 8, .inl (fun _ => 0))), (q3, .inl (c3, 8, .inl (fun _ => 0)))] := hD
  refine lv_aload_n hx hb dX0_init_38 rfl (lv_at hl 0 rfl) ?_
  refine lv_bipush (v := nI 9) hx hb dX0_init_39 (by decide) ?_
  refine va_newa (atype := .int) (ty := .int) (N' := 9) (a0 := (9, .inl (fun _ => 0))) hx hb (hts _ q36) rfl hK hP hD hS hA (fun cA => rfl) (by decide) (by decide) (by decide) (Nat.le_of_ble_eq_true rfl) (Nat.le_of_ble_eq_true rfl) dX0_init_41 (fun q4 c4 H hK hP hD hS => ?_)
  have hP : va_P D vwCl [(h0, .inr (0, [.int (nI 4), .int (nI 4), .ref q1, .ref q2, .ref q3, .null, .null])), (q1, .inl (c1, 8, .inl (fun _ => 0))), (q2, .inl (c2, 8, .inl (fun _ => 0))), (q3, .inl (c3, 8, .inl (fun _ => 0))), (q4, .inl (c4, 9, .inl (fun _ => 0)))] H := hP
  have hD : va_D A [(h0, .inr (0, [.int (nI 4), .int (nI 4), .ref q1, .ref q2, .ref q3, .null, .null])), (q1, .inl (c1, 8, .inl (fun _ => 0))), (q2, .inl (c2, 8, .inl (fun _ => 0))), (q3, .inl (c3, 8, .inl (fun _ => 0))), (q4, .inl (c4, 9, .inl (fun _ => 0)))] := hD
  have hK : va_K D vwCl [(c1, .int), (c2, .int), (c3, .int), (c4, .int)] s := hK
  refine W.widen (k := 4) (n := 33) (Nat.le_of_ble_eq_true rfl) (Nat.le_of_ble_eq_true rfl) ?_
  refine va_putF (D := D) (ci := 0) (v := .ref q4) (ty := .array .int) (C := RX0) (T := TX0) (N := 7) hx hb hts in_X0 tyX0 tyX0_ok nmX0 hown hK hP hD hS 0 rfl rfl 5 (by decide) (hts _ q19) (fun _ h9 => h9) rfl hin rfl (by decide +kernel) rfl rfl (Nat.le_of_ble_eq_true rfl) dX0_init_43 (fun H locs hP hD hS => ?_)
  have hP : va_P D vwCl [(h0, .inr (0, [.int (nI 4), .int (nI 4), .ref q1, .ref q2, .ref q3, .ref q4, .null])), (q1, .inl (c1, 8, .inl (fun _ => 0))), (q2, .inl (c2, 8, .inl (fun _ => 0))), (q3, .inl (c3, 8, .inl (fun _ => 0))), (q4, .inl (c4, 9, .inl (fun _ => 0)))] H := hP
  have hD : va_D A [(h0, .inr (0, [.int (nI 4), .int (nI 4), .ref q1, .ref q2, .ref q3, .ref q4, .null])), (q1, .inl (c1, 8, .inl (fun _ => 0))), (q2, .inl (c2, 8, .inl (fun _ => 0))), (q3, .inl (c3, 8, .inl (fun _ => 0))), (q4, .inl (c4, 9, .inl (fun _ => 0)))] := hD
  refine lv_aload_n hx hb dX0_init_46 rfl (lv_at hl 0 rfl) ?_
  refine lv_sipush (v := nI 256) hx hb dX0_init_47 (by decide) ?_
  refine va_newa (atype := .long) (ty := .long) (N' := 256) (a0 := (256, .inr (.inl (fun _ => 0)))) hx hb (hts _ q37) rfl hK hP hD hS hA (fun cA => rfl) (by decide) (by decide) (by decide) (Nat.le_of_ble_eq_true rfl) (Nat.le_of_ble_eq_true rfl) dX0_init_50 (fun q5 c5 H hK hP hD hS => ?_)
  have hP : va_P D vwCl [(h0, .inr (0, [.int (nI 4), .int (nI 4), .ref q1, .ref q2, .ref q3, .ref q4, .null])), (q1, .inl (c1, 8, .inl (fun _ => 0))), (q2, .inl (c2, 8, .inl (fun _ => 0))), (q3, .inl (c3, 8, .inl (fun _ => 0))), (q4, .inl (c4, 9, .inl (fun _ => 0))), (q5, .inl (c5, 256, .inr (.inl (fun _ => 0))))] H := hP
  have hD : va_D A [(h0, .inr (0, [.int (nI 4), .int (nI 4), .ref q1, .ref q2, .ref q3, .ref q4, .null])), (q1, .inl (c1, 8, .inl (fun _ => 0))), (q2, .inl (c2, 8, .inl (fun _ => 0))), (q3, .inl (c3, 8, .inl (fun _ => 0))), (q4, .inl (c4, 9, .inl (fun _ => 0))), (q5, .inl (c5, 256, .inr (.inl (fun _ => 0))))] := hD
  have hK : va_K D vwCl [(c1, .int), (c2, .int), (c3, .int), (c4, .int), (c5, .long)] s := hK
  refine W.widen (k := 5) (n := 289) (Nat.le_of_ble_eq_true rfl) (Nat.le_of_ble_eq_true rfl) ?_
  refine va_putF (D := D) (ci := 0) (v := .ref q5) (ty := .array .long) (C := RX0) (T := TX0) (N := 7) hx hb hts in_X0 tyX0 tyX0_ok nmX0 hown hK hP hD hS 0 rfl rfl 6 (by decide) (hts _ q20) (fun _ h9 => h9) rfl hin rfl (by decide +kernel) rfl rfl (Nat.le_of_ble_eq_true rfl) dX0_init_52 (fun H locs hP hD hS => ?_)
  have hP : va_P D vwCl [(h0, .inr (0, [.int (nI 4), .int (nI 4), .ref q1, .ref q2, .ref q3, .ref q4, .ref q5])), (q1, .inl (c1, 8, .inl (fun _ => 0))), (q2, .inl (c2, 8, .inl (fun _ => 0))), (q3, .inl (c3, 8, .inl (fun _ => 0))), (q4, .inl (c4, 9, .inl (fun _ => 0))), (q5, .inl (c5, 256, .inr (.inl (fun _ => 0))))] H := hP
  have hD : va_D A [(h0, .inr (0, [.int (nI 4), .int (nI 4), .ref q1, .ref q2, .ref q3, .ref q4, .ref q5])), (q1, .inl (c1, 8, .inl (fun _ => 0))), (q2, .inl (c2, 8, .inl (fun _ => 0))), (q3, .inl (c3, 8, .inl (fun _ => 0))), (q4, .inl (c4, 9, .inl (fun _ => 0))), (q5, .inl (c5, 256, .inr (.inl (fun _ => 0))))] := hD
  exact W.vret hx hb hr (fun t ht hW => ⟨⟨(), rfl, trivial, fun k => [h0, q1, q2, q3, q4, q5].getD k 0, fun k => [c1, c1, c2, c3, c4, c5].getD k c1, rfl, by rw [ht]; exact hP, va_K.moved hW.alike hK, hD⟩, hS.F ht⟩) hS.2.2 dX0_init_55
set_option maxHeartbeats 4000000 in
set_option maxRecDepth 100000 in
theorem ct_init1 (l : Launch) (D : va_G) (h0 sz : Nat) : Met l yX1_init (ws_ yX1_init cX1_init 1 none) ({ frames := 1, cells := 3, slots := 520, locals := 12 }) (va_Pc [.ref h0] (fun U => U.heap.size = sz ∧ va_P D vwCl [(h0, .inr (1, [.null, .int 0, .int 0, .null, .int 0, .int 0, .int 0, .int 0, .null]))] U.heap ∧ va_K D vwCl [] U ∧ va_D (fun _ => True) [(h0, .inr (1, [.null, .int 0, .int 0, .null, .int 0, .int 0, .int 0, .int 0, .null]))])) (va_Qv (fun _ : Unit => True) (fun _ t => ∃ (a : Nat → Nat) (ca : Nat → ClassId), a 0 = h0 ∧ va_P D vwCl (zf_1 a ca ((fun _ => 0), nI 4, nI 4, (fun _ => 0), 0, 0, 0, 0, (fun _ => 0))) t.heap ∧ va_K D vwCl (zt_1 ca) t ∧ va_D (va_A [(h0, .inr (1, [.null, .int 0, .int 0, .null, .int 0, .int 0, .int 0, .int 0, .null]))] sz) (zf_1 a ca ((fun _ => 0), nI 4, nI 4, (fun _ => 0), 0, 0, 0, 0, (fun _ => 0)))) (va_A [(h0, .inr (1, [.null, .int 0, .int 0, .null, .int 0, .int 0, .int 0, .int 0, .null]))] sz)) 3 520 (va_A [(h0, .inr (1, [.null, .int 0, .int 0, .null, .int 0, .int 0, .int 0, .int 0, .null]))] sz) := by
  refine Met.ofW (cc := cX1_init) (maxL := 1) (ret := none) (by decide) rfl ?_
  intro p e s m args below meth c s₁ B hml hv
  obtain ⟨rfl, hsz, hP, hK, hD0⟩ := hv
  have hx := B.exec
  have hb := B.bytes
  have hr := B.returns
  have hts := atoms_spec (ws := ws_ yX1_init cX1_init 1 none) B.pre
  have hts : ∀ w ∈ lw_all, w.before _ s = true := fun w h => hts w (List.mem_cons_of_mem _ h)
  have hown : s.vm.findClass RX1 = some m.cls := findClass_of_methodNamed B.named
  have hlocks := B.notSynchronized
  have hin : meth.name = "<init>" := (name_of_methodNamed B.named B.method).1
  subst hsz
  have hD := hD0.self (sz := s.heap.size)
  generalize hAe : va_A [(h0, .inr (1, [.null, .int 0, .int 0, .null, .int 0, .int 0, .int 0, .int 0, .null]))] s.heap.size = A at hD ⊢
  have hA : ∀ q : Nat, s.heap.size ≤ q → A q := fun q h => by rw [← hAe]; exact Or.inr h
  have hS : va_S A s.heap s.heap [] := va_S.rf
  have hl := lv_entry ([.ref h0]) (n := 1) (Nat.le_of_ble_eq_true rfl)
  rw [lg_entry_eq]
  generalize (lg_sl ([.ref h0]) ++ List.replicate (1 - (lg_sl ([.ref h0])).length) Slot.unset).toArray = ls at hl ⊢
  have hl : lv_has ls 1 [(0, .ref h0)] := hl
  refine lv_aload_n hx hb dX1_init_0 rfl (lv_at hl 0 rfl) ?_
  refine W.objInit hx hb hown (hts _ q84) (hts _ q12) (hts _ q13) rfl (by rw [hml]; exact hl.1) rfl dX1_init_1 (Nat.le_of_ble_eq_true rfl) (Nat.le_of_ble_eq_true rfl) ?_
  refine W.eq (g2 := F0 m 4 ls []) rfl ?_
  refine lv_aload_n hx hb dX1_init_4 rfl (lv_at hl 0 rfl) ?_
  refine lv_bipush (v := nI 8) hx hb dX1_init_5 (by decide) ?_
  refine va_newa (atype := .int) (ty := .int) (N' := 8) (a0 := (8, .inl (fun _ => 0))) hx hb (hts _ q36) rfl hK hP hD hS hA (fun cA => rfl) (by decide) (by decide) (by decide) (Nat.le_of_ble_eq_true rfl) (Nat.le_of_ble_eq_true rfl) dX1_init_7 (fun q1 c1 H hK hP hD hS => ?_)
  have hP : va_P D vwCl [(h0, .inr (1, [.null, .int 0, .int 0, .null, .int 0, .int 0, .int 0, .int 0, .null])), (q1, .inl (c1, 8, .inl (fun _ => 0)))] H := hP
  have hD : va_D A [(h0, .inr (1, [.null, .int 0, .int 0, .null, .int 0, .int 0, .int 0, .int 0, .null])), (q1, .inl (c1, 8, .inl (fun _ => 0)))] := hD
  have hK : va_K D vwCl [(c1, .int)] s := hK
  refine W.widen (k := 1) (n := 8) (Nat.le_of_ble_eq_true rfl) (Nat.le_of_ble_eq_true rfl) ?_
  refine va_putF (D := D) (ci := 1) (v := .ref q1) (ty := .array .int) (C := RX1) (T := TX1) (N := 9) hx hb hts in_X1 tyX1 tyX1_ok nmX1 hown hK hP hD hS 0 rfl rfl 0 (by decide) (hts _ q85) (fun _ h9 => h9) rfl hin rfl (by decide +kernel) rfl rfl (Nat.le_of_ble_eq_true rfl) dX1_init_9 (fun H locs hP hD hS => ?_)
  have hP : va_P D vwCl [(h0, .inr (1, [.ref q1, .int 0, .int 0, .null, .int 0, .int 0, .int 0, .int 0, .null])), (q1, .inl (c1, 8, .inl (fun _ => 0)))] H := hP
  have hD : va_D A [(h0, .inr (1, [.ref q1, .int 0, .int 0, .null, .int 0, .int 0, .int 0, .int 0, .null])), (q1, .inl (c1, 8, .inl (fun _ => 0)))] := hD
  refine lv_aload_n hx hb dX1_init_12 rfl (lv_at hl 0 rfl) ?_
  refine lv_iconst (v := nI 4) hx hb dX1_init_13 (by decide) ?_
  refine va_put (D := D) (ci := 1) (v := .int (nI 4)) (ty := .int) (C := RX1) (T := TX1) (N := 9) hx hb hts in_X1 tyX1 tyX1_ok nmX1 hown hK hP hD hS 0 rfl rfl 1 (by decide) (hts _ q86) (fun _ h9 => h9) rfl (by decide +kernel) rfl rfl (Nat.le_of_ble_eq_true rfl) dX1_init_14 (fun H locs hP hD hS => ?_)
  have hP : va_P D vwCl [(h0, .inr (1, [.ref q1, .int (nI 4), .int 0, .null, .int 0, .int 0, .int 0, .int 0, .null])), (q1, .inl (c1, 8, .inl (fun _ => 0)))] H := hP
  have hD : va_D A [(h0, .inr (1, [.ref q1, .int (nI 4), .int 0, .null, .int 0, .int 0, .int 0, .int 0, .null])), (q1, .inl (c1, 8, .inl (fun _ => 0)))] := hD
  refine lv_aload_n hx hb dX1_init_17 rfl (lv_at hl 0 rfl) ?_
  refine lv_iconst (v := nI 4) hx hb dX1_init_18 (by decide) ?_
  refine va_put (D := D) (ci := 1) (v := .int (nI 4)) (ty := .int) (C := RX1) (T := TX1) (N := 9) hx hb hts in_X1 tyX1 tyX1_ok nmX1 hown hK hP hD hS 0 rfl rfl 2 (by decide) (hts _ q87) (fun _ h9 => h9) rfl (by decide +kernel) rfl rfl (Nat.le_of_ble_eq_true rfl) dX1_init_19 (fun H locs hP hD hS => ?_)
  have hP : va_P D vwCl [(h0, .inr (1, [.ref q1, .int (nI 4), .int (nI 4), .null, .int 0, .int 0, .int 0, .int 0, .null])), (q1, .inl (c1, 8, .inl (fun _ => 0)))] H := hP
  have hD : va_D A [(h0, .inr (1, [.ref q1, .int (nI 4), .int (nI 4), .null, .int 0, .int 0, .int 0, .int 0, .null])), (q1, .inl (c1, 8, .inl (fun _ => 0)))] := hD
  refine lv_aload_n hx hb dX1_init_22 rfl (lv_at hl 0 rfl) ?_
  refine lv_sipush (v := nI 256) hx hb dX1_init_23 (by decide) ?_
  refine va_newa (atype := .int) (ty := .int) (N' := 256) (a0 := (256, .inl (fun _ => 0))) hx hb (hts _ q36) rfl hK hP hD hS hA (fun cA => rfl) (by decide) (by decide) (by decide) (Nat.le_of_ble_eq_true rfl) (Nat.le_of_ble_eq_true rfl) dX1_init_26 (fun q2 c2 H hK hP hD hS => ?_)
  have hP : va_P D vwCl [(h0, .inr (1, [.ref q1, .int (nI 4), .int (nI 4), .null, .int 0, .int 0, .int 0, .int 0, .null])), (q1, .inl (c1, 8, .inl (fun _ => 0))), (q2, .inl (c2, 256, .inl (fun _ => 0)))] H := hP
  have hD : va_D A [(h0, .inr (1, [.ref q1, .int (nI 4), .int (nI 4), .null, .int 0, .int 0, .int 0, .int 0, .null])), (q1, .inl (c1, 8, .inl (fun _ => 0))), (q2, .inl (c2, 256, .inl (fun _ => 0)))] := hD
  have hK : va_K D vwCl [(c1, .int), (c2, .int)] s := hK
  refine W.widen (k := 2) (n := 264) (Nat.le_of_ble_eq_true rfl) (Nat.le_of_ble_eq_true rfl) ?_
  refine va_putF (D := D) (ci := 1) (v := .ref q2) (ty := .array .int) (C := RX1) (T := TX1) (N := 9) hx hb hts in_X1 tyX1 tyX1_ok nmX1 hown hK hP hD hS 0 rfl rfl 3 (by decide) (hts _ q88) (fun _ h9 => h9) rfl hin rfl (by decide +kernel) rfl rfl (Nat.le_of_ble_eq_true rfl) dX1_init_28 (fun H locs hP hD hS => ?_)
  have hP : va_P D vwCl [(h0, .inr (1, [.ref q1, .int (nI 4), .int (nI 4), .ref q2, .int 0, .int 0, .int 0, .int 0, .null])), (q1, .inl (c1, 8, .inl (fun _ => 0))), (q2, .inl (c2, 256, .inl (fun _ => 0)))] H := hP
  have hD : va_D A [(h0, .inr (1, [.ref q1, .int (nI 4), .int (nI 4), .ref q2, .int 0, .int 0, .int 0, .int 0, .null])), (q1, .inl (c1, 8, .inl (fun _ => 0))), (q2, .inl (c2, 256, .inl (fun _ => 0)))] := hD
  refine lv_aload_n hx hb dX1_init_31 rfl (lv_at hl 0 rfl) ?_
  refine lv_sipush (v := nI 256) hx hb dX1_init_32 (by decide) ?_
  refine va_newa (atype := .long) (ty := .long) (N' := 256) (a0 := (256, .inr (.inl (fun _ => 0)))) hx hb (hts _ q37) rfl hK hP hD hS hA (fun cA => rfl) (by decide) (by decide) (by decide) (Nat.le_of_ble_eq_true rfl) (Nat.le_of_ble_eq_true rfl) dX1_init_35 (fun q3 c3 H hK hP hD hS => ?_)
  have hP : va_P D vwCl [(h0, .inr (1, [.ref q1, .int (nI 4), .int (nI 4), .ref q2, .int 0, .int 0, .int 0, .int 0, .null])), (q1, .inl (c1, 8, .inl (fun _ => 0))), (q2, .inl (c2, 256, .inl (fun _ => 0))), (q3, .inl (c3, 256, .inr (.inl (fun _ => 0))))] H := hP
  have hD : va_D A [(h0, .inr (1, [.ref q1, .int (nI 4), .int (nI 4), .ref q2, .int 0, .int 0, .int 0, .int 0, .null])), (q1, .inl (c1, 8, .inl (fun _ => 0))), (q2, .inl (c2, 256, .inl (fun _ => 0))), (q3, .inl (c3, 256, .inr (.inl (fun _ => 0))))] := hD
  have hK : va_K D vwCl [(c1, .int), (c2, .int), (c3, .long)] s := hK
  refine W.widen (k := 3) (n := 520) (Nat.le_of_ble_eq_true rfl) (Nat.le_of_ble_eq_true rfl) ?_
  refine va_putF (D := D) (ci := 1) (v := .ref q3) (ty := .array .long) (C := RX1) (T := TX1) (N := 9) hx hb hts in_X1 tyX1 tyX1_ok nmX1 hown hK hP hD hS 0 rfl rfl 8 (by decide) (hts _ q93) (fun _ h9 => h9) rfl hin rfl (by decide +kernel) rfl rfl (Nat.le_of_ble_eq_true rfl) dX1_init_37 (fun H locs hP hD hS => ?_)
  have hP : va_P D vwCl [(h0, .inr (1, [.ref q1, .int (nI 4), .int (nI 4), .ref q2, .int 0, .int 0, .int 0, .int 0, .ref q3])), (q1, .inl (c1, 8, .inl (fun _ => 0))), (q2, .inl (c2, 256, .inl (fun _ => 0))), (q3, .inl (c3, 256, .inr (.inl (fun _ => 0))))] H := hP
  have hD : va_D A [(h0, .inr (1, [.ref q1, .int (nI 4), .int (nI 4), .ref q2, .int 0, .int 0, .int 0, .int 0, .ref q3])), (q1, .inl (c1, 8, .inl (fun _ => 0))), (q2, .inl (c2, 256, .inl (fun _ => 0))), (q3, .inl (c3, 256, .inr (.inl (fun _ => 0))))] := hD
  exact W.vret hx hb hr (fun t ht hW => ⟨⟨(), rfl, trivial, fun k => [h0, q1, q2, q3].getD k 0, fun k => [c1, c1, c2, c3].getD k c1, rfl, by rw [ht]; exact hP, va_K.moved hW.alike hK, hD⟩, hS.F ht⟩) hS.2.2 dX1_init_40
end
section
/-! THE CLAIM OUT OF ONE WALK OF THE LAW'S BODY. Your part is whole_start (and what it stands on); all else here is the same for every law, but numbers. -/
def R_law : String := "MateDeskLaw"
def lw_P (b : Addr) (xs : List Int32) (args : Array Value) (s : State) : Prop := args = #[.ref b] ∧ s.IntsAt b xs ∧ xs.length ≤ 192 ∧ (Jvm.Cond.and given_1 narrow_1).before args s = true
def lw_Q (_ : Array Value) (s : State) (o : Outcome) (t : State) : Prop := o = .returned (some (.int 1)) ∧ Framed s o t [] 600000 7290000
def lw_Z (below : List Frame) (a : Array Value) (s : State) : State → Prop := fun t => ∃ o, t.status = .running ∧ Ended t below o ∧ lw_Q a s o t
/-- the law's own end, with 1 on the stack, nothing written that was there before, its room as the claim has it -/
theorem lw_ret {p : Program} {l : Launch} {e : Env} {s : State} {m : MethodId} {below : List Frame} {meth : Method} {c : Code} {b : Nat} (hx : p.tables.exec = Jvm.exec) (hb : c.code = code) (hr : meth.sig.returnType = ret) (hlocks : meth.locks = false) {pc : Nat} {H : Heap} {ls : Array Slot} (hdg : decode code pc = .ok (.ireturn, 1)) : W p l e room_1 s m #[Value.ref b] below meth c H [] 600000 7290000 (lw_Z below #[Value.ref b] s) (F0 m pc ls [.int 1]) := by
  intro T hT X
  obtain ⟨fs, hret, hrun, hended, hW, hframe⟩ := X.leave (v := some (.int 1)) (hlocks := hlocks) (fun h => by rw [hr] at h; cases h)
  have hmeth' : T.vm.method? m = some meth := X.method'
  refine ⟨T.setFrames fs, ?_, .returned (some (.int 1)), hrun, hended, rfl, ⟨_, rfl⟩, hW, hframe⟩
  jvm_step X.here [X.here.top, hx, hb, hdg, hmeth', hr, ret, narrow_b1]
  (try refine ⟨rfl, ?_⟩); (try refine ⟨rfl, ?_⟩)
  first | (intro acts; rw [hret _ acts rfl rfl rfl]) | rw [hret _ _ rfl rfl rfl]
  exact Steps.refl _
/-- what holds at the law's entry: the machine, the code, the tables' words (any of lw_tbl by 'hts w (by decide +kernel)'), the script of L ints xs at the cell b, what the Statement gives of the start (any of its parts by flat_of_before) -/
def lw_At (p : Program) (s : State) (m : MethodId) (meth : Method) (c : Code) (b L : Nat) (xs : Nat → Int32) : Prop :=
  p.tables.exec = Jvm.exec ∧ c.code = code ∧ meth.sig.returnType = ret ∧ c.maxLocals = 4 ∧ s.vm.findClass R_law = some m.cls ∧ (∀ w ∈ lw_tbl, w.before #[Value.ref b] s = true) ∧ va_X b L xs s s.heap ∧ b < s.heap.size ∧ meth.locks = false ∧ (Jvm.Cond.and given_1 narrow_1).before #[Value.ref b] s = true
end
section
/-! the law's loop, and the law from its entry -/
theorem zswap {D : va_G} {t1 t2 : List (ClassId × FieldType)} {A : Nat → Prop} {H0 : Heap} {s : State} {w1 w2 : va_W} {H : Heap} {locs : List Loc} (w : zW D (t1 ++ t2) A H0 s (w1 ++ w2) H locs) : zW D (t2 ++ t1) A H0 s (w2 ++ w1) H locs := by
  obtain ⟨hK, hP, hD, hS⟩ := w
  refine ⟨⟨hK.1, fun k q hk => ?_⟩, va_P.swap (a := []) hP, va_D.swap (a := []) hD, hS⟩
  have hm : q ∈ t1 ++ t2 := by
    have h := List.mem_of_getElem? hk
    rw [List.mem_append] at h ⊢
    exact h.symm
  obtain ⟨j, hj⟩ := List.mem_iff_getElem?.mp hm
  exact hK.2 j q hj
theorem zm_l3 {L i : Nat} (hL : L ≤ 192) (hi : i ≤ 192) : nI L - nI 3 < nI i ↔ L < i + 3 := by
  rw [Int32.lt_iff_toInt_lt, pk_sub_toInt (by omega) (by omega), nI_toInt (by omega)]
  omega
theorem zp_u_lt {g : Nat → Nat} {j v N : Nat} (h : ∀ i, g i < N) (hv : v < N) : ∀ i, zp_u g j v i < N := by
  intro i
  by_cases e : i = j
  · rw [e, zp_us]
    exact hv
  · rw [zp_un e]
    exact h i
/-- the class and the reference hold the same sizes and masks; what the reference has kept is right -/
def zI (u0 : zU_0) (u1 : zU_1) : Prop := ∃ (Ln Rn : Nat) (g : Nat → Nat) (my mt fr ln : Nat → Int32) (wy : Nat → Int64) (ok bs : Nat → Int32) (kn pr wt lk : Int32) (wv : Nat → Int64), u0 = (nI Ln, nI Rn, my, mt, fr, ln, wy) ∧ u1 = (ok, nI Ln, nI Rn, bs, kn, pr, wt, lk, wv) ∧ (0 < Ln ∧ Ln ≤ 8) ∧ (0 < Rn ∧ Rn ≤ 8) ∧ zm_g g my ∧ zm_g g ok ∧ (∀ i, g i < 2 ^ Rn) ∧ (kn = nI 0 ∨ (kn = nI 1 ∧ pr = nI (zp_pr Rn g Ln) ∧ wt = nI (zp_wt g Ln) ∧ lk = nI (zp_lk g Ln)))
section LAW
variable {p : Program} {l : Launch} {e : Env} {R : Room} {s : State} {m : MethodId} {args : Array Value} {below : List Frame} {meth : Method} {c : Code} {cells slots : Nat} {Q : State → Prop}
variable {D : va_G} {A : Nat → Prop} {H0 : Heap} {a : Nat → Nat} {ca : Nat → ClassId}
variable {H : Heap} {locs : List Loc} {cc : ByteArray} {pc nL : Nat} {ls : Array Slot} {rest : List Value} {own : String} {tys : List (ClassId × FieldType)} {ws : va_W}
theorem zm_sld (S : CallFix p m c cc nL s args lw_all own) {b L : Nat} {xs : Nat → Int32} (hX : va_X b L xs s H0) (hbl : b < H0.size) (hbA : ¬ A b) (w : zW D tys A H0 s ws H locs) {i : Nat} (hi : i < L) (hL : L < 2 ^ 31) (d : decode cc pc = .ok (.iaload, 1)) (kk : W p l e R s m args below meth c H locs cells slots Q (F0 m (pc + 1) ls (.int (xs i) :: rest))) : W p l e R s m args below meth c H locs cells slots Q (F0 m pc ls (.int (nI i) :: .ref b :: rest)) :=
  va_sld S.1 S.2.1 hX hbl hbA w.2.2.2 (vp_in_nI hi hL) d (by rw [nI_clamp (by omega)]; exact kk)
end LAW
set_option maxHeartbeats 4000000 in
set_option maxRecDepth 100000 in
theorem law_loop {p : Program} {l : Launch} {e : Env} {s : State} {m : MethodId} {below : List Frame} {meth : Method} {c : Code} {D : va_G} {a a' : Nat → Nat} {ca cb : Nat → ClassId} {b L : Nat} {xs : Nat → Int32} (hL : L ≤ 192) (C0 : lw_At p s m meth c b L xs) : ∀ (n i : Nat) (u0 : zU_0) (u1 : zU_1), L + 1 ≤ i + n → i ≤ L → zI u0 u1 → ∀ (H : Heap) (locs : List Loc) (ls : Array Slot), zW D (zt_0 ca ++ zt_1 cb) (fun q : Nat => s.heap.size ≤ q) s.heap s (zf_0 a ca u0 ++ zf_1 a' cb u1) H locs → lv_has ls 4 [(0, .ref b), (1, .ref (a 0)), (2, .ref (a' 0)), (3, .int (nI i))] → W p l e room_1 s m #[Value.ref b] below meth c H locs 10 825 (lw_Z below #[Value.ref b] s) (F0 m 18 ls []) := by
  obtain ⟨hx, hb, hr, hml, hown, hts, hX, hbl, hlocks, hgv⟩ := C0
  have hA : ∀ q : Nat, s.heap.size ≤ q → (fun q : Nat => s.heap.size ≤ q) q := fun _ h => h
  have hbA : ¬ (fun q : Nat => s.heap.size ≤ q) b := Nat.not_le.mpr hbl
  have S : CallFix p m c cL_law 4 s #[Value.ref b] lw_all R_law := ⟨hx, hb, hml, hown, fun w h => hts w (lw_all_tbl h)⟩
  intro n
  induction n with
  | zero =>
    intro i u0 u1 h1 h2
    exact absurd h1 (by omega)
  | succ n ih =>
    intro i u0 u1 h1 h2 hI H locs ls w hl
    obtain ⟨Ln, Rn, g, my, mt, fr, ln, wy, ok, bs, kn, pr, wt, lk, wv, rfl, rfl, hLn, hRn, hmy, hok, hlt, hkn⟩ := hI
    refine lv_iload_n S.1 S.2.1 dL_law_18 rfl (lv_at hl 3 rfl) ?_
    refine lv_aload_n S.1 S.2.1 dL_law_19 rfl (lv_at hl 0 rfl) ?_
    refine va_slen S.1 S.2.1 hX hbl hbA w.2.2.2 dL_law_20 ?_
    refine lv_iconst (v := nI 3) S.1 S.2.1 dL_law_21 (by decide) ?_
    refine lv_isub S.1 S.2.1 dL_law_22 ?_
    refine lv_icmp_gt (tgt := 228) S.1 S.2.1 dL_law_23 (by decide) (fun h => ?_) (fun h => ?_)
    · refine lv_iconst (v := 1) S.1 S.2.1 dL_law_228 (by decide) ?_
      refine va_forget (fun q hq => w.2.2.2.2.2 q hq) ?_
      refine W.widen (k := 600000) (n := 7290000) (Nat.le_of_ble_eq_true rfl) (Nat.le_of_ble_eq_true rfl) ?_
      exact lw_ret hx hb hr hlocks dL_law_229
    · have hi : i + 3 ≤ L := by
        rcases Nat.lt_or_ge L (i + 3) with q | q
        · exact absurd ((zm_l3 hL (by omega)).mpr q) h
        · exact q
      refine lv_aload_n S.1 S.2.1 dL_law_26 rfl (lv_at hl 0 rfl) ?_
      refine lv_iload_n S.1 S.2.1 dL_law_27 rfl (lv_at hl 3 rfl) ?_
      refine zm_sld S hX hbl hbA w (by omega) (by omega) dL_law_28 ?_
      refine lv_bipush (v := nI 7) S.1 S.2.1 dL_law_29 (by decide) ?_
      refine lv_iand S.1 S.2.1 dL_law_31 ?_
      refine zm_top (pk_and (xs i) 3 (by decide)) ?_
      have htt : (xs i).toBitVec.toNat % 2 ^ 3 < 8 := Nat.mod_lt _ (by decide)
      generalize (xs i).toBitVec.toNat % 2 ^ 3 = tt at htt ⊢
      rcases (show tt = 0 ∨ tt = 1 ∨ tt = 2 ∨ tt = 3 ∨ tt = 4 ∨ tt = 5 ∨ tt = 6 ∨ tt = 7 by omega) with rfl | rfl | rfl | rfl | rfl | rfl | rfl | rfl
      · refine lv_tableIn (tgt := 76) S.1 S.2.1 dL_law_32 (by decide) (by decide) (off := 44) rfl (by decide) ?_
        refine lv_aload_n S.1 S.2.1 dL_law_76 rfl (lv_at hl 1 rfl) ?_
        refine lv_aload_n S.1 S.2.1 dL_law_77 rfl (lv_at hl 0 rfl) ?_
        refine lv_iload_n S.1 S.2.1 dL_law_78 rfl (lv_at hl 3 rfl) ?_
        refine lv_iconst (v := nI 1) S.1 S.2.1 dL_law_79 (by decide) ?_
        refine zm_iadd S dL_law_80 ?_
        refine zm_sld S hX hbl hbA w (by omega) (by omega) dL_law_81 ?_
        refine lv_aload_n S.1 S.2.1 dL_law_82 rfl (lv_at hl 0 rfl) ?_
        refine lv_iload_n S.1 S.2.1 dL_law_83 rfl (lv_at hl 3 rfl) ?_
        refine lv_iconst (v := nI 2) S.1 S.2.1 dL_law_84 (by decide) ?_
        refine zm_iadd S dL_law_85 ?_
        refine zm_sld S hX hbl hbA w (by omega) (by omega) dL_law_86 ?_
        refine zcall_v (tyc := zt_0 ca) (tyr := zt_1 cb) (wf := zf_0 a ca) (wr := zf_1 a' cb (ok, nI Ln, nI Rn, bs, kn, pr, wt, lk, wv)) (u := (nI Ln, nI Rn, my, mt, fr, ln, wy)) (As := [.int (xs (i + 1)), .int (xs (i + 2))]) (rest := []) S hA w (ct_sizes0 l D a ca _ _ _ _ _ _ _ _ _) (cwV 2 S.2.2.2.2 (lw_V q38 q39 q40 q4 q41) rfl rfl rfl (by decide +kernel) ⟨Nat.le_of_ble_eq_true rfl, Nat.le_of_ble_eq_true rfl⟩) (va_recv (ci := 0) (q0 := 0) w.1 w.2.1 rfl rfl) rfl hl.1 rfl (Nat.le_of_ble_eq_true rfl) ⟨Nat.le_of_ble_eq_true rfl, Nat.le_of_ble_eq_true rfl⟩ dL_law_87 (fun u H locs hp w => ?_)
        obtain ⟨my', hmy2, rfl⟩ := hp
        have w := zswap w
        refine lv_aload_n S.1 S.2.1 dL_law_90 rfl (lv_at hl 2 rfl) ?_
        refine lv_aload_n S.1 S.2.1 dL_law_91 rfl (lv_at hl 0 rfl) ?_
        refine lv_iload_n S.1 S.2.1 dL_law_92 rfl (lv_at hl 3 rfl) ?_
        refine lv_iconst (v := nI 1) S.1 S.2.1 dL_law_93 (by decide) ?_
        refine zm_iadd S dL_law_94 ?_
        refine zm_sld S hX hbl hbA w (by omega) (by omega) dL_law_95 ?_
        refine lv_aload_n S.1 S.2.1 dL_law_96 rfl (lv_at hl 0 rfl) ?_
        refine lv_iload_n S.1 S.2.1 dL_law_97 rfl (lv_at hl 3 rfl) ?_
        refine lv_iconst (v := nI 2) S.1 S.2.1 dL_law_98 (by decide) ?_
        refine zm_iadd S dL_law_99 ?_
        refine zm_sld S hX hbl hbA w (by omega) (by omega) dL_law_100 ?_
        refine zcall_v (tyc := zt_1 cb) (tyr := zt_0 ca) (wf := zf_1 a' cb) (wr := zf_0 a ca (nI (zp_sz (xs (i + 1))), nI (zp_sz (xs (i + 2))), my', mt, fr, ln, wy)) (u := (ok, nI Ln, nI Rn, bs, kn, pr, wt, lk, wv)) (As := [.int (xs (i + 1)), .int (xs (i + 2))]) (rest := []) S hA w (ct_sizes1 l D a' cb _ _ _ _ _ _ _ _ _ _ _) (cwV 2 S.2.2.2.2 (lw_V q113 q114 q115 q5 q116) rfl rfl rfl (by decide +kernel) ⟨Nat.le_of_ble_eq_true rfl, Nat.le_of_ble_eq_true rfl⟩) (va_recv (ci := 1) (q0 := 0) w.1 w.2.1 rfl rfl) rfl hl.1 rfl (Nat.le_of_ble_eq_true rfl) ⟨Nat.le_of_ble_eq_true rfl, Nat.le_of_ble_eq_true rfl⟩ dL_law_101 (fun u H locs hp w => ?_)
        obtain ⟨ok', hok2, rfl⟩ := hp
        have w := zswap w
        refine lv_goto (tgt := 222) S.1 S.2.1 dL_law_104 (by decide) ?_
        refine lv_iinc (v := nI (i + 3)) (lv' := [(3, .int (nI (i + 3))), (0, .ref b), (1, .ref (a 0)), (2, .ref (a' 0))]) S.1 S.2.1 dL_law_222 hl (k := 3) rfl (zm_inc3 _) (by decide) rfl (fun ls hl => ?_)
        refine lv_goto (tgt := 18) S.1 S.2.1 dL_law_225 (by decide) ?_
        exact ih (i + 3) _ _ (by omega) (by omega) ⟨_, _, fun _ => 0, _, _, _, _, _, _, _, _, _, _, _, _, rfl, rfl, zp_sz_in, zp_sz_in, hmy2, hok2, fun _ => Nat.two_pow_pos _, Or.inl rfl⟩ H locs ls w (lv_sub hl [1, 2, 3, 0] rfl)
      · refine lv_tableIn (tgt := 107) S.1 S.2.1 dL_law_32 (by decide) (by decide) (off := 75) rfl (by decide) ?_
        refine lv_aload_n S.1 S.2.1 dL_law_107 rfl (lv_at hl 1 rfl) ?_
        refine lv_aload_n S.1 S.2.1 dL_law_108 rfl (lv_at hl 0 rfl) ?_
        refine lv_iload_n S.1 S.2.1 dL_law_109 rfl (lv_at hl 3 rfl) ?_
        refine lv_iconst (v := nI 1) S.1 S.2.1 dL_law_110 (by decide) ?_
        refine zm_iadd S dL_law_111 ?_
        refine zm_sld S hX hbl hbA w (by omega) (by omega) dL_law_112 ?_
        refine lv_aload_n S.1 S.2.1 dL_law_113 rfl (lv_at hl 0 rfl) ?_
        refine lv_iload_n S.1 S.2.1 dL_law_114 rfl (lv_at hl 3 rfl) ?_
        refine lv_iconst (v := nI 2) S.1 S.2.1 dL_law_115 (by decide) ?_
        refine zm_iadd S dL_law_116 ?_
        refine zm_sld S hX hbl hbA w (by omega) (by omega) dL_law_117 ?_
        refine zcall_v (tyc := zt_0 ca) (tyr := zt_1 cb) (wf := zf_0 a ca) (wr := zf_1 a' cb (ok, nI Ln, nI Rn, bs, kn, pr, wt, lk, wv)) (u := (nI Ln, nI Rn, my, mt, fr, ln, wy)) (As := [.int (xs (i + 1)), .int (xs (i + 2))]) (rest := []) S hA w (ct_may0 l D a ca _ _ Ln Rn g _ _ _ _ _ hLn hRn hmy hlt) (cwV 2 S.2.2.2.2 (lw_V q42 q43 q44 q4 q45) rfl rfl rfl (by decide +kernel) ⟨Nat.le_of_ble_eq_true rfl, Nat.le_of_ble_eq_true rfl⟩) (va_recv (ci := 0) (q0 := 0) w.1 w.2.1 rfl rfl) rfl hl.1 rfl (Nat.le_of_ble_eq_true rfl) ⟨Nat.le_of_ble_eq_true rfl, Nat.le_of_ble_eq_true rfl⟩ dL_law_118 (fun u H locs hp w => ?_)
        obtain ⟨my', hmy2, rfl⟩ := hp
        have w := zswap w
        refine lv_aload_n S.1 S.2.1 dL_law_121 rfl (lv_at hl 2 rfl) ?_
        refine lv_aload_n S.1 S.2.1 dL_law_122 rfl (lv_at hl 0 rfl) ?_
        refine lv_iload_n S.1 S.2.1 dL_law_123 rfl (lv_at hl 3 rfl) ?_
        refine lv_iconst (v := nI 1) S.1 S.2.1 dL_law_124 (by decide) ?_
        refine zm_iadd S dL_law_125 ?_
        refine zm_sld S hX hbl hbA w (by omega) (by omega) dL_law_126 ?_
        refine lv_aload_n S.1 S.2.1 dL_law_127 rfl (lv_at hl 0 rfl) ?_
        refine lv_iload_n S.1 S.2.1 dL_law_128 rfl (lv_at hl 3 rfl) ?_
        refine lv_iconst (v := nI 2) S.1 S.2.1 dL_law_129 (by decide) ?_
        refine zm_iadd S dL_law_130 ?_
        refine zm_sld S hX hbl hbA w (by omega) (by omega) dL_law_131 ?_
        refine zcall_v (tyc := zt_1 cb) (tyr := zt_0 ca) (wf := zf_1 a' cb) (wr := zf_0 a ca (nI Ln, nI Rn, my', mt, fr, ln, wy)) (u := (ok, nI Ln, nI Rn, bs, kn, pr, wt, lk, wv)) (As := [.int (xs (i + 1)), .int (xs (i + 2))]) (rest := []) S hA w (ct_may1 l D a' cb _ _ Ln Rn g _ _ _ _ _ _ _ hLn hRn hok hlt) (cwV 2 S.2.2.2.2 (lw_V q117 q118 q119 q5 q120) rfl rfl rfl (by decide +kernel) ⟨Nat.le_of_ble_eq_true rfl, Nat.le_of_ble_eq_true rfl⟩) (va_recv (ci := 1) (q0 := 0) w.1 w.2.1 rfl rfl) rfl hl.1 rfl (Nat.le_of_ble_eq_true rfl) ⟨Nat.le_of_ble_eq_true rfl, Nat.le_of_ble_eq_true rfl⟩ dL_law_132 (fun u H locs hp w => ?_)
        obtain ⟨ok', hok2, rfl⟩ := hp
        have w := zswap w
        refine lv_goto (tgt := 222) S.1 S.2.1 dL_law_135 (by decide) ?_
        refine lv_iinc (v := nI (i + 3)) (lv' := [(3, .int (nI (i + 3))), (0, .ref b), (1, .ref (a 0)), (2, .ref (a' 0))]) S.1 S.2.1 dL_law_222 hl (k := 3) rfl (zm_inc3 _) (by decide) rfl (fun ls hl => ?_)
        refine lv_goto (tgt := 18) S.1 S.2.1 dL_law_225 (by decide) ?_
        exact ih (i + 3) _ _ (by omega) (by omega) ⟨Ln, Rn, _, _, _, _, _, _, _, _, _, _, _, _, _, rfl, rfl, hLn, hRn, hmy2, hok2, zp_u_lt hlt (Nat.or_lt_two_pow (hlt _) (Nat.pow_lt_pow_right (by decide) (zp_cd_lt hRn.1))), Or.inl rfl⟩ H locs ls w (lv_sub hl [1, 2, 3, 0] rfl)
      · refine lv_tableIn (tgt := 138) S.1 S.2.1 dL_law_32 (by decide) (by decide) (off := 106) rfl (by decide) ?_
        refine lv_aload_n S.1 S.2.1 dL_law_138 rfl (lv_at hl 1 rfl) ?_
        refine lv_aload_n S.1 S.2.1 dL_law_139 rfl (lv_at hl 0 rfl) ?_
        refine lv_iload_n S.1 S.2.1 dL_law_140 rfl (lv_at hl 3 rfl) ?_
        refine lv_iconst (v := nI 1) S.1 S.2.1 dL_law_141 (by decide) ?_
        refine zm_iadd S dL_law_142 ?_
        refine zm_sld S hX hbl hbA w (by omega) (by omega) dL_law_143 ?_
        refine lv_aload_n S.1 S.2.1 dL_law_144 rfl (lv_at hl 0 rfl) ?_
        refine lv_iload_n S.1 S.2.1 dL_law_145 rfl (lv_at hl 3 rfl) ?_
        refine lv_iconst (v := nI 2) S.1 S.2.1 dL_law_146 (by decide) ?_
        refine zm_iadd S dL_law_147 ?_
        refine zm_sld S hX hbl hbA w (by omega) (by omega) dL_law_148 ?_
        refine zcall_v (tyc := zt_0 ca) (tyr := zt_1 cb) (wf := zf_0 a ca) (wr := zf_1 a' cb (ok, nI Ln, nI Rn, bs, kn, pr, wt, lk, wv)) (u := (nI Ln, nI Rn, my, mt, fr, ln, wy)) (As := [.int (xs (i + 1)), .int (xs (i + 2))]) (rest := []) S hA w (ct_not0 l D a ca _ _ Ln Rn g _ _ _ _ _ hLn hRn hmy hlt) (cwV 2 S.2.2.2.2 (lw_V q50 q51 q52 q4 q53) rfl rfl rfl (by decide +kernel) ⟨Nat.le_of_ble_eq_true rfl, Nat.le_of_ble_eq_true rfl⟩) (va_recv (ci := 0) (q0 := 0) w.1 w.2.1 rfl rfl) rfl hl.1 rfl (Nat.le_of_ble_eq_true rfl) ⟨Nat.le_of_ble_eq_true rfl, Nat.le_of_ble_eq_true rfl⟩ dL_law_149 (fun u H locs hp w => ?_)
        obtain ⟨my', hmy2, rfl⟩ := hp
        have w := zswap w
        refine lv_aload_n S.1 S.2.1 dL_law_152 rfl (lv_at hl 2 rfl) ?_
        refine lv_aload_n S.1 S.2.1 dL_law_153 rfl (lv_at hl 0 rfl) ?_
        refine lv_iload_n S.1 S.2.1 dL_law_154 rfl (lv_at hl 3 rfl) ?_
        refine lv_iconst (v := nI 1) S.1 S.2.1 dL_law_155 (by decide) ?_
        refine zm_iadd S dL_law_156 ?_
        refine zm_sld S hX hbl hbA w (by omega) (by omega) dL_law_157 ?_
        refine lv_aload_n S.1 S.2.1 dL_law_158 rfl (lv_at hl 0 rfl) ?_
        refine lv_iload_n S.1 S.2.1 dL_law_159 rfl (lv_at hl 3 rfl) ?_
        refine lv_iconst (v := nI 2) S.1 S.2.1 dL_law_160 (by decide) ?_
        refine zm_iadd S dL_law_161 ?_
        refine zm_sld S hX hbl hbA w (by omega) (by omega) dL_law_162 ?_
        refine zcall_v (tyc := zt_1 cb) (tyr := zt_0 ca) (wf := zf_1 a' cb) (wr := zf_0 a ca (nI Ln, nI Rn, my', mt, fr, ln, wy)) (u := (ok, nI Ln, nI Rn, bs, kn, pr, wt, lk, wv)) (As := [.int (xs (i + 1)), .int (xs (i + 2))]) (rest := []) S hA w (ct_not1 l D a' cb _ _ Ln Rn g _ _ _ _ _ _ _ hLn hRn hok hlt) (cwV 2 S.2.2.2.2 (lw_V q122 q123 q124 q5 q125) rfl rfl rfl (by decide +kernel) ⟨Nat.le_of_ble_eq_true rfl, Nat.le_of_ble_eq_true rfl⟩) (va_recv (ci := 1) (q0 := 0) w.1 w.2.1 rfl rfl) rfl hl.1 rfl (Nat.le_of_ble_eq_true rfl) ⟨Nat.le_of_ble_eq_true rfl, Nat.le_of_ble_eq_true rfl⟩ dL_law_163 (fun u H locs hp w => ?_)
        obtain ⟨ok', hok2, rfl⟩ := hp
        have w := zswap w
        refine lv_goto (tgt := 222) S.1 S.2.1 dL_law_166 (by decide) ?_
        refine lv_iinc (v := nI (i + 3)) (lv' := [(3, .int (nI (i + 3))), (0, .ref b), (1, .ref (a 0)), (2, .ref (a' 0))]) S.1 S.2.1 dL_law_222 hl (k := 3) rfl (zm_inc3 _) (by decide) rfl (fun ls hl => ?_)
        refine lv_goto (tgt := 18) S.1 S.2.1 dL_law_225 (by decide) ?_
        exact ih (i + 3) _ _ (by omega) (by omega) ⟨Ln, Rn, _, _, _, _, _, _, _, _, _, _, _, _, _, rfl, rfl, hLn, hRn, hmy2, hok2, zp_u_lt hlt (Nat.lt_of_le_of_lt Nat.and_le_left (hlt _)), Or.inl rfl⟩ H locs ls w (lv_sub hl [1, 2, 3, 0] rfl)
      · refine lv_tableIn (tgt := 169) S.1 S.2.1 dL_law_32 (by decide) (by decide) (off := 137) rfl (by decide) ?_
        refine lv_aload_n S.1 S.2.1 dL_law_169 rfl (lv_at hl 1 rfl) ?_
        refine zcall_i (tyc := zt_0 ca) (tyr := zt_1 cb) (wf := zf_0 a ca) (wr := zf_1 a' cb (ok, nI Ln, nI Rn, bs, kn, pr, wt, lk, wv)) (u := (nI Ln, nI Rn, my, mt, fr, ln, wy)) (As := []) (rest := []) S hA w (ct_most0 l D a ca Ln Rn g _ _ _ _ _ hLn hRn hmy hlt) (cwV 0 S.2.2.2.2 (lw_V q54 q55 q56 q4 q57) rfl rfl rfl (by decide +kernel) ⟨Nat.le_of_ble_eq_true rfl, Nat.le_of_ble_eq_true rfl⟩) (va_recv (ci := 0) (q0 := 0) w.1 w.2.1 rfl rfl) rfl hl.1 rfl (Nat.le_of_ble_eq_true rfl) ⟨Nat.le_of_ble_eq_true rfl, Nat.le_of_ble_eq_true rfl⟩ dL_law_170 (fun r u H locs hp w => ?_)
        obtain ⟨pn, mt', fr', ln', hN, rfl, rfl⟩ := hp
        have w := zswap w
        refine lv_aload_n S.1 S.2.1 dL_law_173 rfl (lv_at hl 2 rfl) ?_
        refine zcall_i (tyc := zt_1 cb) (tyr := zt_0 ca) (wf := zf_1 a' cb) (wr := zf_0 a ca (nI Ln, nI Rn, my, mt', fr', ln', wy)) (u := (ok, nI Ln, nI Rn, bs, kn, pr, wt, lk, wv)) (As := []) (rest := [.int (nI pn)]) S hA w (ct_most1 l D a' cb Ln Rn g _ _ _ _ _ _ _ hLn hRn hok hlt hkn) (cwV 0 S.2.2.2.2 (lw_V q126 q127 q128 q5 q129) rfl rfl rfl (by decide +kernel) ⟨Nat.le_of_ble_eq_true rfl, Nat.le_of_ble_eq_true rfl⟩) (va_recv (ci := 1) (q0 := 0) w.1 w.2.1 rfl rfl) rfl hl.1 rfl (Nat.le_of_ble_eq_true rfl) ⟨Nat.le_of_ble_eq_true rfl, Nat.le_of_ble_eq_true rfl⟩ dL_law_174 (fun r u H locs hp w => ?_)
        obtain ⟨bs', rfl, rfl⟩ := hp
        refine lv_icmp_eq (tgt := 222) S.1 S.2.1 dL_law_177 (by decide) (fun h9 => ?_) (fun h9 => ?_)
        · have w := zswap w
          refine lv_iinc (v := nI (i + 3)) (lv' := [(3, .int (nI (i + 3))), (0, .ref b), (1, .ref (a 0)), (2, .ref (a' 0))]) S.1 S.2.1 dL_law_222 hl (k := 3) rfl (zm_inc3 _) (by decide) rfl (fun ls hl => ?_)
          refine lv_goto (tgt := 18) S.1 S.2.1 dL_law_225 (by decide) ?_
          exact ih (i + 3) _ _ (by omega) (by omega) ⟨Ln, Rn, g, _, _, _, _, _, _, _, _, _, _, _, _, rfl, rfl, hLn, hRn, hmy, hok, hlt, Or.inr ⟨rfl, rfl, rfl, rfl⟩⟩ H locs ls w (lv_sub hl [1, 2, 3, 0] rfl)
        · exact absurd (congrArg nI (zp_pairs hRn.2 hLn.2 hN)).symm h9
      · refine lv_tableIn (tgt := 182) S.1 S.2.1 dL_law_32 (by decide) (by decide) (off := 150) rfl (by decide) ?_
        refine lv_aload_n S.1 S.2.1 dL_law_182 rfl (lv_at hl 1 rfl) ?_
        refine zcall_i (tyc := zt_0 ca) (tyr := zt_1 cb) (wf := zf_0 a ca) (wr := zf_1 a' cb (ok, nI Ln, nI Rn, bs, kn, pr, wt, lk, wv)) (u := (nI Ln, nI Rn, my, mt, fr, ln, wy)) (As := []) (rest := []) S hA w (ct_watchers0 l D a ca Ln Rn g _ _ _ _ _ hLn hRn hmy hlt) (cwV 0 S.2.2.2.2 (lw_V q66 q67 q68 q4 q69) rfl rfl rfl (by decide +kernel) ⟨Nat.le_of_ble_eq_true rfl, Nat.le_of_ble_eq_true rfl⟩) (va_recv (ci := 0) (q0 := 0) w.1 w.2.1 rfl rfl) rfl hl.1 rfl (Nat.le_of_ble_eq_true rfl) ⟨Nat.le_of_ble_eq_true rfl, Nat.le_of_ble_eq_true rfl⟩ dL_law_183 (fun r u H locs hp w => ?_)
        obtain ⟨pn, mt', fr', ln', hN, rfl, rfl⟩ := hp
        have w := zswap w
        refine lv_aload_n S.1 S.2.1 dL_law_186 rfl (lv_at hl 2 rfl) ?_
        refine zcall_i (tyc := zt_1 cb) (tyr := zt_0 ca) (wf := zf_1 a' cb) (wr := zf_0 a ca (nI Ln, nI Rn, my, mt', fr', ln', wy)) (u := (ok, nI Ln, nI Rn, bs, kn, pr, wt, lk, wv)) (As := []) (rest := [.int (nI pn)]) S hA w (ct_watchers1 l D a' cb Ln Rn g _ _ _ _ _ _ _ hLn hRn hok hlt hkn) (cwV 0 S.2.2.2.2 (lw_V q137 q138 q139 q5 q140) rfl rfl rfl (by decide +kernel) ⟨Nat.le_of_ble_eq_true rfl, Nat.le_of_ble_eq_true rfl⟩) (va_recv (ci := 1) (q0 := 0) w.1 w.2.1 rfl rfl) rfl hl.1 rfl (Nat.le_of_ble_eq_true rfl) ⟨Nat.le_of_ble_eq_true rfl, Nat.le_of_ble_eq_true rfl⟩ dL_law_187 (fun r u H locs hp w => ?_)
        obtain ⟨bs', rfl, rfl⟩ := hp
        refine lv_icmp_eq (tgt := 222) S.1 S.2.1 dL_law_190 (by decide) (fun h9 => ?_) (fun h9 => ?_)
        · have w := zswap w
          refine lv_iinc (v := nI (i + 3)) (lv' := [(3, .int (nI (i + 3))), (0, .ref b), (1, .ref (a 0)), (2, .ref (a' 0))]) S.1 S.2.1 dL_law_222 hl (k := 3) rfl (zm_inc3 _) (by decide) rfl (fun ls hl => ?_)
          refine lv_goto (tgt := 18) S.1 S.2.1 dL_law_225 (by decide) ?_
          exact ih (i + 3) _ _ (by omega) (by omega) ⟨Ln, Rn, g, _, _, _, _, _, _, _, _, _, _, _, _, rfl, rfl, hLn, hRn, hmy, hok, hlt, Or.inr ⟨rfl, rfl, rfl, rfl⟩⟩ H locs ls w (lv_sub hl [1, 2, 3, 0] rfl)
        · exact absurd (congrArg nI (zp_watch hRn.2 hLn.2 hlt hN)).symm h9
      · refine lv_tableIn (tgt := 195) S.1 S.2.1 dL_law_32 (by decide) (by decide) (off := 163) rfl (by decide) ?_
        refine lv_aload_n S.1 S.2.1 dL_law_195 rfl (lv_at hl 1 rfl) ?_
        refine zcall_i (tyc := zt_0 ca) (tyr := zt_1 cb) (wf := zf_0 a ca) (wr := zf_1 a' cb (ok, nI Ln, nI Rn, bs, kn, pr, wt, lk, wv)) (u := (nI Ln, nI Rn, my, mt, fr, ln, wy)) (As := []) (rest := []) S hA w (ct_lack0 l D a ca Ln Rn g _ _ _ _ _ hLn hRn hmy hlt) (cwV 0 S.2.2.2.2 (lw_V q71 q72 q73 q4 q74) rfl rfl rfl (by decide +kernel) ⟨Nat.le_of_ble_eq_true rfl, Nat.le_of_ble_eq_true rfl⟩) (va_recv (ci := 0) (q0 := 0) w.1 w.2.1 rfl rfl) rfl hl.1 rfl (Nat.le_of_ble_eq_true rfl) ⟨Nat.le_of_ble_eq_true rfl, Nat.le_of_ble_eq_true rfl⟩ dL_law_196 (fun r u H locs hp w => ?_)
        obtain ⟨pn, mt', fr', ln', hN, rfl, rfl⟩ := hp
        have w := zswap w
        refine lv_aload_n S.1 S.2.1 dL_law_199 rfl (lv_at hl 2 rfl) ?_
        refine zcall_i (tyc := zt_1 cb) (tyr := zt_0 ca) (wf := zf_1 a' cb) (wr := zf_0 a ca (nI Ln, nI Rn, my, mt', fr', ln', wy)) (u := (ok, nI Ln, nI Rn, bs, kn, pr, wt, lk, wv)) (As := []) (rest := [.int (nI (Ln - pn))]) S hA w (ct_lack1 l D a' cb Ln Rn g _ _ _ _ _ _ _ hLn hRn hok hlt hkn) (cwV 0 S.2.2.2.2 (lw_V q141 q142 q143 q5 q144) rfl rfl rfl (by decide +kernel) ⟨Nat.le_of_ble_eq_true rfl, Nat.le_of_ble_eq_true rfl⟩) (va_recv (ci := 1) (q0 := 0) w.1 w.2.1 rfl rfl) rfl hl.1 rfl (Nat.le_of_ble_eq_true rfl) ⟨Nat.le_of_ble_eq_true rfl, Nat.le_of_ble_eq_true rfl⟩ dL_law_200 (fun r u H locs hp w => ?_)
        obtain ⟨bs', rfl, rfl⟩ := hp
        refine lv_icmp_eq (tgt := 222) S.1 S.2.1 dL_law_203 (by decide) (fun h9 => ?_) (fun h9 => ?_)
        · have w := zswap w
          refine lv_iinc (v := nI (i + 3)) (lv' := [(3, .int (nI (i + 3))), (0, .ref b), (1, .ref (a 0)), (2, .ref (a' 0))]) S.1 S.2.1 dL_law_222 hl (k := 3) rfl (zm_inc3 _) (by decide) rfl (fun ls hl => ?_)
          refine lv_goto (tgt := 18) S.1 S.2.1 dL_law_225 (by decide) ?_
          exact ih (i + 3) _ _ (by omega) (by omega) ⟨Ln, Rn, g, _, _, _, _, _, _, _, _, _, _, _, _, rfl, rfl, hLn, hRn, hmy, hok, hlt, Or.inr ⟨rfl, rfl, rfl, rfl⟩⟩ H locs ls w (lv_sub hl [1, 2, 3, 0] rfl)
        · exact absurd (congrArg nI (zp_lack hRn.2 hLn.2 hlt hN)).symm h9
      · refine lv_tableIn (tgt := 208) S.1 S.2.1 dL_law_32 (by decide) (by decide) (off := 176) rfl (by decide) ?_
        refine lv_aload_n S.1 S.2.1 dL_law_208 rfl (lv_at hl 1 rfl) ?_
        refine zcall_l (tyc := zt_0 ca) (tyr := zt_1 cb) (wf := zf_0 a ca) (wr := zf_1 a' cb (ok, nI Ln, nI Rn, bs, kn, pr, wt, lk, wv)) (u := (nI Ln, nI Rn, my, mt, fr, ln, wy)) (As := []) (rest := []) S hA w (ct_full0 l D a ca Ln Rn g _ _ _ _ _ hLn hRn hmy) (cwV 0 S.2.2.2.2 (lw_V q75 q76 q77 q4 q78) rfl rfl rfl (by decide +kernel) ⟨Nat.le_of_ble_eq_true rfl, Nat.le_of_ble_eq_true rfl⟩) (va_recv (ci := 0) (q0 := 0) w.1 w.2.1 rfl rfl) rfl hl.1 rfl (Nat.le_of_ble_eq_true rfl) ⟨Nat.le_of_ble_eq_true rfl, Nat.le_of_ble_eq_true rfl⟩ dL_law_209 (fun r u H locs hp w => ?_)
        obtain ⟨wy', rfl, rfl⟩ := hp
        have w := zswap w
        refine lv_aload_n S.1 S.2.1 dL_law_212 rfl (lv_at hl 2 rfl) ?_
        refine zcall_l (tyc := zt_1 cb) (tyr := zt_0 ca) (wf := zf_1 a' cb) (wr := zf_0 a ca (nI Ln, nI Rn, my, mt, fr, ln, wy')) (u := (ok, nI Ln, nI Rn, bs, kn, pr, wt, lk, wv)) (As := []) (rest := [.long (zp_full Rn g Ln)]) S hA w (ct_full1 l D a' cb Ln Rn g _ _ _ _ _ _ _ hLn hRn hok hlt) (cwV 0 S.2.2.2.2 (lw_V q145 q146 q147 q5 q148) rfl rfl rfl (by decide +kernel) ⟨Nat.le_of_ble_eq_true rfl, Nat.le_of_ble_eq_true rfl⟩) (va_recv (ci := 1) (q0 := 0) w.1 w.2.1 rfl rfl) rfl hl.1 rfl (Nat.le_of_ble_eq_true rfl) ⟨Nat.le_of_ble_eq_true rfl, Nat.le_of_ble_eq_true rfl⟩ dL_law_213 (fun r u H locs hp w => ?_)
        obtain ⟨wv', rfl, rfl⟩ := hp
        refine W.lcmp S.1 S.2.1 dL_law_216 ?_
        refine lv_if_eq (tgt := 222) S.1 S.2.1 dL_law_217 (by decide) (fun h9 => ?_) (fun h9 => ?_)
        · have w := zswap w
          refine lv_iinc (v := nI (i + 3)) (lv' := [(3, .int (nI (i + 3))), (0, .ref b), (1, .ref (a 0)), (2, .ref (a' 0))]) S.1 S.2.1 dL_law_222 hl (k := 3) rfl (zm_inc3 _) (by decide) rfl (fun ls hl => ?_)
          refine lv_goto (tgt := 18) S.1 S.2.1 dL_law_225 (by decide) ?_
          exact ih (i + 3) _ _ (by omega) (by omega) ⟨Ln, Rn, g, _, _, _, _, _, _, _, _, _, _, _, _, rfl, rfl, hLn, hRn, hmy, hok, hlt, hkn⟩ H locs ls w (lv_sub hl [1, 2, 3, 0] rfl)
        · exact absurd ((lg_cmp_eq _ _).mpr rfl) h9
      · refine lv_tableOut (tgt := 222) S.1 S.2.1 dL_law_32 (Or.inr (by decide)) (by decide) ?_
        refine lv_iinc (v := nI (i + 3)) (lv' := [(3, .int (nI (i + 3))), (0, .ref b), (1, .ref (a 0)), (2, .ref (a' 0))]) S.1 S.2.1 dL_law_222 hl (k := 3) rfl (zm_inc3 _) (by decide) rfl (fun ls hl => ?_)
        refine lv_goto (tgt := 18) S.1 S.2.1 dL_law_225 (by decide) ?_
        exact ih (i + 3) _ _ (by omega) (by omega) ⟨Ln, Rn, g, _, _, _, _, _, _, _, _, _, _, _, _, rfl, rfl, hLn, hRn, hmy, hok, hlt, hkn⟩ H locs ls w (lv_sub hl [1, 2, 3, 0] rfl)
end
section
set_option maxHeartbeats 4000000 in
set_option maxRecDepth 100000 in
theorem whole_start {p : Program} {e : Env} {s : State} {m : MethodId} {below : List Frame} {meth : Method} {c : Code} (l : Launch) {b L : Nat} {xs : Nat → Int32} (hL : L ≤ 192) (C0 : lw_At p s m meth c b L xs) : W p l e room_1 s m #[Value.ref b] below meth c s.heap [] 0 0 (lw_Z below #[Value.ref b] s) (entryFrame m ([Value.ref b] : List Value).toArray 4) := by
  obtain ⟨hx, hb, hr, hml, hown, hts0, hX, hbl, hlocks, hgv⟩ := id C0
  have hts : ∀ w ∈ lw_all, w.before #[Value.ref b] s = true := fun w h => hts0 w (lw_all_tbl h)
  have hA : ∀ q : Nat, s.heap.size ≤ q → (fun q : Nat => s.heap.size ≤ q) q := fun _ h => h
  obtain ⟨c0, iS0, hKn0⟩ := u_known (C := RX0) (T := TX0) (N := 7) (n := 7) hts in_X0 (hts _ q7)
  obtain ⟨c1, iS1, hKn1⟩ := u_known (C := RX1) (T := TX1) (N := 9) (n := 9) hts in_X1 (hts _ q80)
  obtain ⟨D, hKc⟩ : ∃ D : va_G, ∀ (k : Nat) (q : vw_C), vwCl[k]? = some q → u_Kn s q.1 q.2.1 q.2.2 (D.1 k) (D.2 k) := by
    refine ⟨(fun k => if k = 0 then c0 else c1, fun k => if k = 0 then iS0 else iS1), ?_⟩
    intro k q hq
    match k, hq with
    | 0, hq => cases hq; exact hKn0
    | 1, hq => cases hq; exact hKn1
    | k + 2, hq => simp [vwCl] at hq
  have hS : va_S (fun q : Nat => s.heap.size ≤ q) s.heap s.heap [] := va_S.rf
  have hK : va_K D vwCl [] s := ⟨hKc, fun k q h => by simp at h⟩
  have hP : va_P D vwCl [] s.heap := fun k q h => by simp at h
  have hD : va_D (fun q : Nat => s.heap.size ≤ q) [] := ⟨fun i j p q h => by simp at h, fun k q h => by simp at h⟩
  have hl := lv_entry ([.ref b]) (n := 4) (Nat.le_of_ble_eq_true rfl)
  rw [lg_entry_eq]
  generalize (lg_sl ([.ref b]) ++ List.replicate (4 - (lg_sl ([.ref b])).length) Slot.unset).toArray = ls at hl ⊢
  have hl : lv_has ls 4 [(0, .ref b)] := hl
  refine va_new (ci := 0) (fs := [.int 0, .int 0, .null, .null, .null, .null, .null]) (C := RX0) (T := TX0) (N := 7) hx hb hts in_X0 tyX0 tyX0_ok hown (hts _ q6) (hts _ q7) (hts _ q4) hK hP hD hS hA rfl (fun j hj => by rcases (show j = 0 ∨ j = 1 ∨ j = 2 ∨ j = 3 ∨ j = 4 ∨ j = 5 ∨ j = 6 by omega) with rfl | rfl | rfl | rfl | rfl | rfl | rfl <;> rfl) (Nat.le_of_ble_eq_true rfl) (Nat.le_of_ble_eq_true rfl) dL_law_0 (fun q0 H hP hD hS => ?_)
  refine W.widen (k := 1) (n := 7) (Nat.le_of_ble_eq_true rfl) (Nat.le_of_ble_eq_true rfl) ?_
  refine lv_dup hx hb dL_law_3 rfl ?_
  have hP : va_P D vwCl ([(q0, .inr (0, [.int 0, .int 0, .null, .null, .null, .null, .null]))] ++ []) H := hP
  have hD : va_D (fun q : Nat => s.heap.size ≤ q) ([(q0, .inr (0, [.int 0, .int 0, .null, .null, .null, .null, .null]))] ++ []) := hD
  have hPc := zP_left hP
  have hDc := zD_left hD
  have hKc := hK.sub (tys' := []) [] rfl
  have hFc := zfree hA hD hS
  refine va_callv (va_runI (As := []) (rest := [.ref q0]) ⟨hx, hb, hml, hown, hts⟩ (ct_init0 l D q0 H.size) (cwI 0 hts (lw_meth q10) rfl rfl rfl (hts _ q4) (hts _ q8) (hts _ q9) rfl (by decide +kernel) ⟨Nat.le_of_ble_eq_true rfl, Nat.le_of_ble_eq_true rfl⟩) ⟨fun a U g mk q => by obtain ⟨q0, q1, qP, qK, qD⟩ := q; exact ⟨q0, q1, qP, va_K.moved (u := U) (U := U.calling g mk a) (Vm.Alike.refl U.vm) qK, qD⟩, fun U hU hW => ⟨rfl, by rw [hU], by rw [hU]; exact hPc, va_K.moved hW.alike hKc, hDc.weaken (fun _ _ _ _ => trivial)⟩⟩ rfl rfl hl.1 rfl (lv_room (Nat.le_of_ble_eq_true rfl)) dL_law_4 ⟨Nat.le_of_ble_eq_true rfl, Nat.le_of_ble_eq_true rfl⟩) hS (fun q _ h => hFc q h) hFc (fun u t H1 locs ht hvm hw hB hz1 hk1 hS => ?_)
  obtain ⟨a, ca, ha0, hP1, hK1, hD1⟩ := hB
  subst ha0
  rw [ht] at hP1
  have hK1 := va_K.moved hvm.symm hK1
  obtain ⟨hP, hD⟩ := zjoin hP hD hk1 hFc hP1 hD1
  generalize H1 = H at hP hS ⊢
  refine W.widen (k := 6) (n := 296) (Nat.le_of_ble_eq_true rfl) (Nat.le_of_ble_eq_true rfl) ?_
  have hP : va_P D vwCl (zf_0 a ca (nI 4, nI 4, (fun _ => 0), (fun _ => 0), (fun _ => 0), (fun _ => 0), (fun _ => 0))) H := hP
  have hD : va_D (fun q : Nat => s.heap.size ≤ q) (zf_0 a ca (nI 4, nI 4, (fun _ => 0), (fun _ => 0), (fun _ => 0), (fun _ => 0), (fun _ => 0))) := hD
  have hK : va_K D vwCl (zt_0 ca) s := hK1
  refine lv_astore_n (lv' := [(1, .ref (a 0)), (0, .ref b)]) hx hb dL_law_7 rfl hl (by decide) rfl (fun ls hl => ?_)
  refine va_new (ci := 1) (fs := [.null, .int 0, .int 0, .null, .int 0, .int 0, .int 0, .int 0, .null]) (C := RX1) (T := TX1) (N := 9) hx hb hts in_X1 tyX1 tyX1_ok hown (hts _ q79) (hts _ q80) (hts _ q5) hK hP hD hS hA rfl (fun j hj => by rcases (show j = 0 ∨ j = 1 ∨ j = 2 ∨ j = 3 ∨ j = 4 ∨ j = 5 ∨ j = 6 ∨ j = 7 ∨ j = 8 by omega) with rfl | rfl | rfl | rfl | rfl | rfl | rfl | rfl | rfl <;> rfl) (Nat.le_of_ble_eq_true rfl) (Nat.le_of_ble_eq_true rfl) dL_law_8 (fun q1 H hP hD hS => ?_)
  refine W.widen (k := 7) (n := 305) (Nat.le_of_ble_eq_true rfl) (Nat.le_of_ble_eq_true rfl) ?_
  refine lv_dup hx hb dL_law_11 rfl ?_
  have hP : va_P D vwCl ([(q1, .inr (1, [.null, .int 0, .int 0, .null, .int 0, .int 0, .int 0, .int 0, .null]))] ++ zf_0 a ca (nI 4, nI 4, (fun _ => 0), (fun _ => 0), (fun _ => 0), (fun _ => 0), (fun _ => 0))) H := va_P.swap (a := []) (b := zf_0 a ca (nI 4, nI 4, (fun _ => 0), (fun _ => 0), (fun _ => 0), (fun _ => 0), (fun _ => 0))) (c := [(q1, .inr (1, [.null, .int 0, .int 0, .null, .int 0, .int 0, .int 0, .int 0, .null]))]) hP
  have hD : va_D (fun q : Nat => s.heap.size ≤ q) ([(q1, .inr (1, [.null, .int 0, .int 0, .null, .int 0, .int 0, .int 0, .int 0, .null]))] ++ zf_0 a ca (nI 4, nI 4, (fun _ => 0), (fun _ => 0), (fun _ => 0), (fun _ => 0), (fun _ => 0))) := va_D.swap (a := []) (b := zf_0 a ca (nI 4, nI 4, (fun _ => 0), (fun _ => 0), (fun _ => 0), (fun _ => 0), (fun _ => 0))) (c := [(q1, .inr (1, [.null, .int 0, .int 0, .null, .int 0, .int 0, .int 0, .int 0, .null]))]) hD
  have hPc := zP_left hP
  have hDc := zD_left hD
  have hKc := hK.sub (tys' := []) [] rfl
  have hFc := zfree hA hD hS
  refine va_callv (va_runI (As := []) (rest := [.ref q1]) ⟨hx, hb, hml, hown, hts⟩ (ct_init1 l D q1 H.size) (cwI 0 hts (lw_meth q83) rfl rfl rfl (hts _ q5) (hts _ q81) (hts _ q82) rfl (by decide +kernel) ⟨Nat.le_of_ble_eq_true rfl, Nat.le_of_ble_eq_true rfl⟩) ⟨fun a U g mk q => by obtain ⟨q0, q1, qP, qK, qD⟩ := q; exact ⟨q0, q1, qP, va_K.moved (u := U) (U := U.calling g mk a) (Vm.Alike.refl U.vm) qK, qD⟩, fun U hU hW => ⟨rfl, by rw [hU], by rw [hU]; exact hPc, va_K.moved hW.alike hKc, hDc.weaken (fun _ _ _ _ => trivial)⟩⟩ rfl rfl hl.1 rfl (lv_room (Nat.le_of_ble_eq_true rfl)) dL_law_12 ⟨Nat.le_of_ble_eq_true rfl, Nat.le_of_ble_eq_true rfl⟩) hS (fun q _ h => hFc q h) hFc (fun u t H1 locs ht hvm hw hB hz1 hk1 hS => ?_)
  obtain ⟨a', cb, ha0, hP1, hK1, hD1⟩ := hB
  subst ha0
  rw [ht] at hP1
  have hK1 := va_K.moved hvm.symm hK1
  obtain ⟨hP, hD⟩ := zjoin hP hD hk1 hFc hP1 hD1
  generalize H1 = H at hP hS ⊢
  refine W.widen (k := 10) (n := 825) (Nat.le_of_ble_eq_true rfl) (Nat.le_of_ble_eq_true rfl) ?_
  have hK : va_K D vwCl (zt_1 cb ++ zt_0 ca) s := hK1.app hK
  have w : zW D (zt_1 cb ++ zt_0 ca) (fun q : Nat => s.heap.size ≤ q) s.heap s (zf_1 a' cb ((fun _ => 0), nI 4, nI 4, (fun _ => 0), 0, 0, 0, 0, (fun _ => 0)) ++ zf_0 a ca (nI 4, nI 4, (fun _ => 0), (fun _ => 0), (fun _ => 0), (fun _ => 0), (fun _ => 0))) H locs := ⟨hK, hP, hD, hS⟩
  have w := zswap w
  refine lv_astore_n (lv' := [(2, .ref (a' 0)), (1, .ref (a 0)), (0, .ref b)]) hx hb dL_law_15 rfl hl (by decide) rfl (fun ls hl => ?_)
  refine lv_iconst (v := nI 0) hx hb dL_law_16 (by decide) ?_
  refine lv_istore_n (lv' := [(3, .int (nI 0)), (2, .ref (a' 0)), (1, .ref (a 0)), (0, .ref b)]) hx hb dL_law_17 rfl hl (by decide) rfl (fun ls hl => ?_)
  exact law_loop hL C0 (L + 1) 0 (nI 4, nI 4, (fun _ => 0), (fun _ => 0), (fun _ => 0), (fun _ => 0), (fun _ => 0)) ((fun _ => 0), nI 4, nI 4, (fun _ => 0), 0, 0, 0, 0, (fun _ => 0)) (by omega) (Nat.zero_le _) ⟨4, 4, fun _ => 0, _, _, _, _, _, _, _, _, _, _, _, _, rfl, rfl, ⟨by decide, by decide⟩, ⟨by decide, by decide⟩, fun _ _ => nI_0.symm, fun _ _ => nI_0.symm, fun _ => Nat.two_pow_pos _, Or.inl nI_0.symm⟩ H locs ls w (lv_sub hl [3, 2, 1, 0] rfl)
set_option maxHeartbeats 4000000 in
theorem lw_walk (l : Launch) (b : Addr) (xs : List Int32) : MetFree l x (headSpec (Jvm.Cond.code x code maxLocals ret :: tables_1) room_1) (lw_P b xs) (fun _ _ _ _ _ => True) lw_Q := by
  refine MetFree.of_bodyS (code := code) (maxLocals := maxLocals) (ret := ret) (by decide) ?_ ?_
  · intro args s m h hn
    obtain ⟨meth, c, h1, h2, h3, h4, h5, h6, -, -⟩ := Cond.code_spec hn (atoms_spec (ws := Jvm.Cond.code x code maxLocals ret :: tables_1) h _ List.mem_cons_self)
    exact ⟨meth, c, h1, h2, h3, h4, h5, h6⟩
  · intro p e s m args below meth c s₁ B hml0 hP _
    obtain ⟨rfl, hx, hbd, hgv⟩ := hP
    obtain ⟨scr, harrAt, hlist, hof, hsmall⟩ := hx
    obtain ⟨hcb, hkn, -, -⟩ := State.arrayAt?_spec harrAt
    have hown : s.vm.findClass R_law = some m.cls := findClass_of_methodNamed B.named
    have hts0 : ∀ c ∈ (Jvm.Cond.code x code maxLocals ret :: tables_1), c.before #[Value.ref b] s = true := atoms_spec (ws := Jvm.Cond.code x code maxLocals ret :: tables_1) B.pre
    have hts : ∀ w ∈ lw_tbl, w.before #[Value.ref b] s = true := k2_hts_sels lw_privs (fun w hw => hts0 w (List.mem_cons_of_mem _ hw)) lw_privs_ok
    have hml : c.maxLocals = 4 := B.maxLocals_eq (hts0 _ List.mem_cons_self)
    have X₀ : Stand p l e room_1 s m #[Value.ref b] below meth c s₁ [] 0 0 := Stand.of_body B
    have hh0 : s₁.heap = s.heap := by rw [B.state]; rfl
    have hsz : scr.slots.size = xs.length := by rw [← Array.length_toList, hlist, List.length_map]
    have hval : ∀ j : Nat, j < xs.length → scr.slots[j]? = some (.int (xs.getD j 0)) := fun j hj => by
      rw [← Array.getElem?_toList, hlist]
      simp [hj]
    have hbl : b < s.heap.size := (Array.getElem?_eq_some_iff.mp hcb).1
    have hX : va_X b xs.length (fun j => xs.getD j 0) s s.heap := ⟨scr, hcb, hof, hkn, hsz, hval⟩
    have K : W p l e room_1 s m #[Value.ref b] below meth c s₁.heap [] 0 0 (lw_Z below #[Value.ref b] s) (entryFrame m ([Value.ref b] : List Value).toArray 4) := by
      rw [hh0]
      exact whole_start l hbd ⟨B.exec, B.bytes, B.returns, hml, hown, hts, hX, hbl, B.notSynchronized, hgv⟩
    obtain ⟨t, a1, o, b1, b2, b3⟩ := K s₁ rfl X₀
    exact ⟨t, o, a1, b1, b2, b3⟩
theorem lw_pre_spec {args : Array Value} {s : State} (h : (Jvm.Cond.and given_1 narrow_1).before args s = true) (hr : rest_1_c.before args s = true) : ∃ (b : Addr) (xs : List Int32), lw_P b xs args s := by
  have hs := flat_of_before _ h
  have hq := flat_of_before _ hr
  have hc : (Cond.count 1).before args s = true := hs _ (by decide +kernel)
  have harr : (Cond.arrayOf (.arg 0) .int).before args s = true := hs _ (by decide +kernel)
  have hle : (Cond.le (.length (.arg 0)) (.int 192)).before args s = true := hs _ (by decide +kernel)
  have hlen : (Cond.isInt (.length (.arg 0))).before args s = true := hq _ (by decide +kernel)
  have hall : (Cond.all (.arg 0) (.isInt (.elem (.arg 0) (.index 0)))).before args s = true := hq _ (by decide +kernel)
  obtain ⟨b, xs, hb, hx⟩ := State.ints_of_pre rfl harr hlen hall
  have hsm : xs.length < 2 ^ 31 := hx.choose_spec.2.2.2
  have hev : (Term.length (.arg 0)).eval args s none [] s = some (.int xs.length.toInt32) := hx.length_eval hb
  have hv := Cond.le_ints hev (show (Term.int 192).eval args s none [] s = some (.int 192) from rfl)
  have hd : xs.length.toInt32 ≤ 192 := by
    simpa [Cond.before, Cond.holds, hv] using hle
  have hN : xs.length ≤ 192 := (Int32.ofNat_le_ofNat hsm (by decide)).mp (show Int32.ofNat xs.length ≤ Int32.ofNat 192 from hd)
  exact ⟨b, xs, Cond.one_arg hc (show args[0]? = some (.ref b) from hb), hx, hN, h⟩
theorem lw_comes (l : Launch) : Comes l x (Jvm.Cond.code x code maxLocals ret :: tables_1) room_1 (fun tb e args s => Calls_1 tb e args s ∧ rest_1 tb e args s ∧ Pre_1 tb e args s)
    (fun _ _ args s o t => lw_Q args s o t) := by
  intro p e ha hc hk s m args below hf hfit hheap happ hpre
  obtain ⟨b, xs, hP⟩ := lw_pre_spec hpre.2.2 hpre.2.1
  obtain ⟨k, o, h1, h2, h3, hQ⟩ := lw_walk l b xs p e ha hc hk s m args below hf ((Spec.applies_iff_loose hf).mp happ).1 hP trivial
  exact ⟨k, o, h1, h2, h3, hQ⟩
theorem lw_frame {s t : State} {o : Outcome} {args : Array Value} (h : Framed s o t [] 600000 7290000) :
    Framed s o t (fieldLocs frame_1_writes args s ++ arrayLocs frame_1_arrays args s ++ staticLocs frame_1_statics s) 600000 7290000 := h
theorem lw_limb (L : Cond) (hL : ∀ (args : Array Value) (s t : State), L.after args s (.returned (some (.int 1))) t = true) :
    ArmFor flags0 classFile x code maxLocals ret World_1 tables_1 room_1 Calls_1 rest_1 Pre_1
      (fun tb e a s o t => postC L tb e a s o t ∧ Framed s o t (fieldLocs frame_1_writes a s ++ arrayLocs frame_1_arrays a s ++ staticLocs frame_1_statics s) 600000 7290000) := by
  intro l _ _ _ p e ha hc hk s m args below hf hfit hheap happ hpre
  obtain ⟨k, o, h1, h2, h3, rfl, hF⟩ := lw_comes l p e ha hc hk s m args below hf hfit hheap happ hpre
  exact ⟨k, _, h1, h2, h3, hL args s _, lw_frame hF⟩
theorem i_vc : Claimed_1_1 ∧ Claimed_1_2 := ⟨lw_limb limb_1_1 (fun args s t => by simp [limb_1_1, Cond.after, Cond.holds, Cond.value]), lw_limb limb_1_2 (fun args s t => Cond.after_iff.mpr (by
  first | (rw [show limb_1_2 = Cond.eq .result (.int 1) from rfl, Cond.eq_ints (x := 1) (y := 1) rfl rfl]; simp; done) | (simp [limb_1_2, Cond.value, Term.eval]; done)))⟩
end
