section
-- ===== PART A: goes FIRST, ahead of the names: the tables' words, and 'selects' of the private methods out of them =====
/-- a private method of a class that the tables say can be made, by its rows of tables_1 -/
def lw_okq (q : MethodName × Nat) : Prop := (q.1.cls ≠ "java/lang/invoke/MethodHandle" ∧ q.1.cls ≠ "java/lang/invoke/VarHandle") ∧ Cond.instantiable q.1.cls q.2 ∈ tables_1 ∧ Cond.privateMethod q.1 ∈ tables_1 ∧ Cond.instanceMethod q.1 ∈ tables_1
set_option maxRecDepth 100000
theorem lw_p0 : lw_okq (⟨"ExtentIndex", "insert", "(II)V"⟩, 5) := ⟨⟨by decide +kernel, by decide +kernel⟩, List.mem_of_getElem? (i := 4) rfl, List.mem_of_getElem? (i := 16) rfl, List.mem_of_getElem? (i := 17) rfl⟩
theorem lw_p1 : lw_okq (⟨"ExtentIndex", "firstFrom", "(I)I"⟩, 5) := ⟨⟨by decide +kernel, by decide +kernel⟩, List.mem_of_getElem? (i := 4) rfl, List.mem_of_getElem? (i := 20) rfl, List.mem_of_getElem? (i := 21) rfl⟩
theorem lw_p2 : lw_okq (⟨"ExtentIndex", "keyFrom", "(I)I"⟩, 5) := ⟨⟨by decide +kernel, by decide +kernel⟩, List.mem_of_getElem? (i := 4) rfl, List.mem_of_getElem? (i := 24) rfl, List.mem_of_getElem? (i := 25) rfl⟩
theorem lw_p3 : lw_okq (⟨"ExtentIndex", "cut", "(III)V"⟩, 5) := ⟨⟨by decide +kernel, by decide +kernel⟩, List.mem_of_getElem? (i := 4) rfl, List.mem_of_getElem? (i := 52) rfl, List.mem_of_getElem? (i := 53) rfl⟩
theorem lw_p4 : lw_okq (⟨"ExtentIndex", "remove", "(I)V"⟩, 5) := ⟨⟨by decide +kernel, by decide +kernel⟩, List.mem_of_getElem? (i := 4) rfl, List.mem_of_getElem? (i := 56) rfl, List.mem_of_getElem? (i := 57) rfl⟩
theorem lw_p5 : lw_okq (⟨"ExtentIndex", "extentOf", "(I)I"⟩, 5) := ⟨⟨by decide +kernel, by decide +kernel⟩, List.mem_of_getElem? (i := 4) rfl, List.mem_of_getElem? (i := 74) rfl, List.mem_of_getElem? (i := 75) rfl⟩
theorem lw_p6 : lw_okq (⟨"ExtentIndex", "largestExtent", "()I"⟩, 5) := ⟨⟨by decide +kernel, by decide +kernel⟩, List.mem_of_getElem? (i := 4) rfl, List.mem_of_getElem? (i := 86) rfl, List.mem_of_getElem? (i := 87) rfl⟩
theorem lw_p7 : lw_okq (⟨"ExtentIndexModel", "badSize", "(I)Z"⟩, 1) := ⟨⟨by decide +kernel, by decide +kernel⟩, List.mem_of_getElem? (i := 123) rfl, List.mem_of_getElem? (i := 138) rfl, List.mem_of_getElem? (i := 139) rfl⟩
theorem lw_p8 : lw_okq (⟨"ExtentIndexModel", "begins", "(I)Z"⟩, 1) := ⟨⟨by decide +kernel, by decide +kernel⟩, List.mem_of_getElem? (i := 123) rfl, List.mem_of_getElem? (i := 142) rfl, List.mem_of_getElem? (i := 143) rfl⟩
theorem lw_p9 : lw_okq (⟨"ExtentIndexModel", "badBlock", "(I)Z"⟩, 1) := ⟨⟨by decide +kernel, by decide +kernel⟩, List.mem_of_getElem? (i := 123) rfl, List.mem_of_getElem? (i := 146) rfl, List.mem_of_getElem? (i := 147) rfl⟩
theorem lw_p10 : lw_okq (⟨"ExtentIndexModel", "run", "(I)I"⟩, 1) := ⟨⟨by decide +kernel, by decide +kernel⟩, List.mem_of_getElem? (i := 123) rfl, List.mem_of_getElem? (i := 150) rfl, List.mem_of_getElem? (i := 151) rfl⟩
theorem lw_p11 : lw_okq (⟨"ExtentIndexModel", "mark", "(IIZ)V"⟩, 1) := ⟨⟨by decide +kernel, by decide +kernel⟩, List.mem_of_getElem? (i := 123) rfl, List.mem_of_getElem? (i := 154) rfl, List.mem_of_getElem? (i := 155) rfl⟩
theorem lw_p12 : lw_okq (⟨"ExtentIndexModel", "away", "(II)I"⟩, 1) := ⟨⟨by decide +kernel, by decide +kernel⟩, List.mem_of_getElem? (i := 123) rfl, List.mem_of_getElem? (i := 162) rfl, List.mem_of_getElem? (i := 163) rfl⟩
theorem lw_p13 : lw_okq (⟨"ExtentIndexModel", "refusal", "(II)I"⟩, 1) := ⟨⟨by decide +kernel, by decide +kernel⟩, List.mem_of_getElem? (i := 123) rfl, List.mem_of_getElem? (i := 170) rfl, List.mem_of_getElem? (i := 171) rfl⟩
def lw_privs_1 : List (MethodName × Nat) := [(⟨"ExtentIndex", "insert", "(II)V"⟩, 5), (⟨"ExtentIndex", "firstFrom", "(I)I"⟩, 5), (⟨"ExtentIndex", "keyFrom", "(I)I"⟩, 5), (⟨"ExtentIndex", "cut", "(III)V"⟩, 5), (⟨"ExtentIndex", "remove", "(I)V"⟩, 5), (⟨"ExtentIndex", "extentOf", "(I)I"⟩, 5), (⟨"ExtentIndex", "largestExtent", "()I"⟩, 5), (⟨"ExtentIndexModel", "badSize", "(I)Z"⟩, 1), (⟨"ExtentIndexModel", "begins", "(I)Z"⟩, 1), (⟨"ExtentIndexModel", "badBlock", "(I)Z"⟩, 1), (⟨"ExtentIndexModel", "run", "(I)I"⟩, 1), (⟨"ExtentIndexModel", "mark", "(IIZ)V"⟩, 1), (⟨"ExtentIndexModel", "away", "(II)I"⟩, 1), (⟨"ExtentIndexModel", "refusal", "(II)I"⟩, 1)]
theorem lw_r1 : ∀ q ∈ lw_privs_1, lw_okq q := List.forall_mem_cons.mpr ⟨lw_p0, List.forall_mem_cons.mpr ⟨lw_p1, List.forall_mem_cons.mpr ⟨lw_p2, List.forall_mem_cons.mpr ⟨lw_p3, List.forall_mem_cons.mpr ⟨lw_p4, List.forall_mem_cons.mpr ⟨lw_p5, List.forall_mem_cons.mpr ⟨lw_p6, List.forall_mem_cons.mpr ⟨lw_p7, List.forall_mem_cons.mpr ⟨lw_p8, List.forall_mem_cons.mpr ⟨lw_p9, List.forall_mem_cons.mpr ⟨lw_p10, List.forall_mem_cons.mpr ⟨lw_p11, List.forall_mem_cons.mpr ⟨lw_p12, List.forall_mem_cons.mpr ⟨lw_p13, fun _ h => absurd h List.not_mem_nil⟩⟩⟩⟩⟩⟩⟩⟩⟩⟩⟩⟩⟩⟩
def lw_privs : List (MethodName × Nat) := lw_privs_1
def lw_tbl : List Cond := k2_sels lw_privs ++ tables_1
theorem lw_privs_ok : ∀ q ∈ lw_privs, lw_okq q := lw_r1
-- ===== ONE list of words for every method: the tables' words that hold all through a run =====
def lw_all : List Cond := lw_tbl.filter goodWord
/-- a word of the tables by its place: claim/WORDS.tsv -/
theorem lw_w {w : Cond} (i : Nat) (h : lw_tbl[i]? = some w) (g : goodWord w = true) : w ∈ lw_all := List.mem_filter.mpr ⟨List.mem_of_getElem? h, g⟩
theorem lw_all_tbl {w : Cond} (h : w ∈ lw_all) : w ∈ lw_tbl := (List.mem_filter.mp h).1
theorem lw_self : GoodIn lw_all lw_all := fun w h => ⟨h, good_of_word (List.mem_filter.mp h).2⟩
/-- a class's field words, by their places -/
theorem lw_in (ws : List Cond) (ps : List Nat) (hp : ws = ps.filterMap (fun i => lw_tbl[i]?)) (hg : ws.all goodWord = true) : ∀ w ∈ ws, w ∈ lw_all := by
  intro w h
  have h1 := List.all_eq_true.mp hg w h
  rw [hp] at h
  obtain ⟨i, -, hi⟩ := List.mem_filterMap.mp h
  exact lw_w i hi h1
/-- the words of a contract for the method y with code b, L locals, answer r -/
abbrev ws_ (y : MethodName) (b : ByteArray) (L : Nat) (r : Option FieldType) : List Cond := Cond.code y b L r :: lw_all
theorem lw_meth {y : MethodName} {b : ByteArray} {L : Nat} {r : Option FieldType} (h : Cond.code y b L r ∈ lw_all) : GoodIn lw_all (ws_ y b L r) := by
  intro w hw
  rcases List.mem_cons.mp hw with e | e
  · rw [e]
    exact lw_self _ h
  · exact lw_self _ e
theorem lw_app {a c : List Cond} (ha : ∀ w ∈ a, w ∈ lw_all) (hc : GoodIn lw_all c) : GoodIn lw_all (a ++ c) := by
  intro w hw
  rcases List.mem_append.mp hw with e | e
  · exact lw_self w (ha w e)
  · exact hc w e
/-- what a call through an object asks: cwV n hts (lw_V ..) -/
theorem lw_V {own : String} {idx : Nat} {C : String} {y : MethodName} {b : ByteArray} {L : Nat} {r : Option FieldType} (h1 : Cond.methodLink own idx y ∈ lw_all) (h2 : Cond.instanceMethod y ∈ lw_all) (h3 : Cond.selects C y y ∈ lw_all) (h4 : Cond.initialized C ∈ lw_all) (h5 : Cond.code y b L r ∈ lw_all) : GoodIn lw_all (wsV own idx C y (ws_ y b L r)) := by
  refine lw_app ?_ (lw_meth h5)
  intro w hw
  simp only [List.mem_cons, List.not_mem_nil, or_false] at hw
  rcases hw with e | e | e | e
  · rw [e]; exact h1
  · rw [e]; exact h2
  · rw [e]; exact h3
  · rw [e]; exact h4
/-- what a static call asks: va_cwS n hts (lw_S ..) -/
theorem lw_S {own : String} {idx : Nat} {y : MethodName} {b : ByteArray} {L : Nat} {r : Option FieldType} (h1 : Cond.methodLink own idx y ∈ lw_all) (h2 : Cond.static y ∈ lw_all) (h3 : Cond.initialized y.cls ∈ lw_all) (h4 : Cond.code y b L r ∈ lw_all) : GoodIn lw_all (va_wsS own idx y (ws_ y b L r)) := by
  refine lw_app ?_ (lw_meth h4)
  intro w hw
  simp only [List.mem_cons, List.not_mem_nil, or_false] at hw
  rcases hw with e | e | e
  · rw [e]; exact h1
  · rw [e]; exact h2
  · rw [e]; exact h3
/-- the words of a contract for a method WITH HANDLERS (hh: its table) -/
abbrev wsW_ (y : MethodName) (b : ByteArray) (L : Nat) (r : Option FieldType) (hh : List (Nat × Nat × Nat × Nat)) : List Cond := Cond.codeWith y b L r hh :: lw_all
theorem lw_methW {y : MethodName} {b : ByteArray} {L : Nat} {r : Option FieldType} {hh : List (Nat × Nat × Nat × Nat)} (h : Cond.codeWith y b L r hh ∈ lw_all) : GoodIn lw_all (wsW_ y b L r hh) := by
  intro w hw
  rcases List.mem_cons.mp hw with e | e
  · rw [e]
    exact lw_self _ h
  · exact lw_self _ e
/-- any list of words by their places (lw_in), good -/
theorem lw_good {ws : List Cond} (h : ∀ w ∈ ws, w ∈ lw_all) : GoodIn lw_all ws := fun w hw => lw_self w (h w hw)
/-- what a call of a method with handlers asks: vx_cwVW n hts (lw_VW ..), vx_cwSW n hts (lw_SW ..) -/
theorem lw_VW {own : String} {idx : Nat} {C : String} {y : MethodName} {b : ByteArray} {L : Nat} {r : Option FieldType} {hh : List (Nat × Nat × Nat × Nat)} (h1 : Cond.methodLink own idx y ∈ lw_all) (h2 : Cond.instanceMethod y ∈ lw_all) (h3 : Cond.selects C y y ∈ lw_all) (h4 : Cond.initialized C ∈ lw_all) (h5 : Cond.codeWith y b L r hh ∈ lw_all) : GoodIn lw_all (wsV own idx C y (wsW_ y b L r hh)) := by
  refine lw_app ?_ (lw_methW h5)
  intro w hw
  simp only [List.mem_cons, List.not_mem_nil, or_false] at hw
  rcases hw with e | e | e | e
  · rw [e]; exact h1
  · rw [e]; exact h2
  · rw [e]; exact h3
  · rw [e]; exact h4
theorem lw_SW {own : String} {idx : Nat} {y : MethodName} {b : ByteArray} {L : Nat} {r : Option FieldType} {hh : List (Nat × Nat × Nat × Nat)} (h1 : Cond.methodLink own idx y ∈ lw_all) (h2 : Cond.static y ∈ lw_all) (h3 : Cond.initialized y.cls ∈ lw_all) (h4 : Cond.codeWith y b L r hh ∈ lw_all) : GoodIn lw_all (va_wsS own idx y (wsW_ y b L r hh)) := by
  refine lw_app ?_ (lw_methW h4)
  intro w hw
  simp only [List.mem_cons, List.not_mem_nil, or_false] at hw
  rcases hw with e | e | e
  · rw [e]; exact h1
  · rw [e]; exact h2
  · rw [e]; exact h3
/-- a word by its place in its run of the tables -/
theorem lw_at {r : List Cond} (hr : ∀ w ∈ r, w ∈ lw_tbl) {w : Cond} (i : Nat) (h : r[i]? = some w) : w ∈ lw_tbl := hr w (List.mem_of_getElem? h)
theorem lw_g {w : Cond} (h : w ∈ lw_tbl) (g : goodWord w = true) : w ∈ lw_all := List.mem_filter.mpr ⟨h, g⟩
theorem lw_ms : ∀ w ∈ k2_sels lw_privs, w ∈ lw_tbl := fun w h => show w ∈ k2_sels lw_privs ++ tables_1 from List.mem_append_left _ h
theorem lw_m0 : ∀ w ∈ tables_1, w ∈ lw_tbl := fun w h => show w ∈ k2_sels lw_privs ++ tables_1 from List.mem_append_right (k2_sels lw_privs) h
theorem qs0 : (Cond.selects "ExtentIndex" ⟨"ExtentIndex", "insert", "(II)V"⟩ ⟨"ExtentIndex", "insert", "(II)V"⟩) ∈ lw_all := lw_g (lw_at lw_ms 0 rfl) rfl
theorem qs1 : (Cond.selects "ExtentIndex" ⟨"ExtentIndex", "firstFrom", "(I)I"⟩ ⟨"ExtentIndex", "firstFrom", "(I)I"⟩) ∈ lw_all := lw_g (lw_at lw_ms 1 rfl) rfl
theorem qs2 : (Cond.selects "ExtentIndex" ⟨"ExtentIndex", "keyFrom", "(I)I"⟩ ⟨"ExtentIndex", "keyFrom", "(I)I"⟩) ∈ lw_all := lw_g (lw_at lw_ms 2 rfl) rfl
theorem qs3 : (Cond.selects "ExtentIndex" ⟨"ExtentIndex", "cut", "(III)V"⟩ ⟨"ExtentIndex", "cut", "(III)V"⟩) ∈ lw_all := lw_g (lw_at lw_ms 3 rfl) rfl
theorem qs4 : (Cond.selects "ExtentIndex" ⟨"ExtentIndex", "remove", "(I)V"⟩ ⟨"ExtentIndex", "remove", "(I)V"⟩) ∈ lw_all := lw_g (lw_at lw_ms 4 rfl) rfl
theorem qs5 : (Cond.selects "ExtentIndex" ⟨"ExtentIndex", "extentOf", "(I)I"⟩ ⟨"ExtentIndex", "extentOf", "(I)I"⟩) ∈ lw_all := lw_g (lw_at lw_ms 5 rfl) rfl
theorem qs6 : (Cond.selects "ExtentIndex" ⟨"ExtentIndex", "largestExtent", "()I"⟩ ⟨"ExtentIndex", "largestExtent", "()I"⟩) ∈ lw_all := lw_g (lw_at lw_ms 6 rfl) rfl
theorem qs7 : (Cond.selects "ExtentIndexModel" ⟨"ExtentIndexModel", "badSize", "(I)Z"⟩ ⟨"ExtentIndexModel", "badSize", "(I)Z"⟩) ∈ lw_all := lw_g (lw_at lw_ms 7 rfl) rfl
theorem qs8 : (Cond.selects "ExtentIndexModel" ⟨"ExtentIndexModel", "begins", "(I)Z"⟩ ⟨"ExtentIndexModel", "begins", "(I)Z"⟩) ∈ lw_all := lw_g (lw_at lw_ms 8 rfl) rfl
theorem qs9 : (Cond.selects "ExtentIndexModel" ⟨"ExtentIndexModel", "badBlock", "(I)Z"⟩ ⟨"ExtentIndexModel", "badBlock", "(I)Z"⟩) ∈ lw_all := lw_g (lw_at lw_ms 9 rfl) rfl
theorem qs10 : (Cond.selects "ExtentIndexModel" ⟨"ExtentIndexModel", "run", "(I)I"⟩ ⟨"ExtentIndexModel", "run", "(I)I"⟩) ∈ lw_all := lw_g (lw_at lw_ms 10 rfl) rfl
theorem qs11 : (Cond.selects "ExtentIndexModel" ⟨"ExtentIndexModel", "mark", "(IIZ)V"⟩ ⟨"ExtentIndexModel", "mark", "(IIZ)V"⟩) ∈ lw_all := lw_g (lw_at lw_ms 11 rfl) rfl
theorem qs12 : (Cond.selects "ExtentIndexModel" ⟨"ExtentIndexModel", "away", "(II)I"⟩ ⟨"ExtentIndexModel", "away", "(II)I"⟩) ∈ lw_all := lw_g (lw_at lw_ms 12 rfl) rfl
theorem qs13 : (Cond.selects "ExtentIndexModel" ⟨"ExtentIndexModel", "refusal", "(II)I"⟩ ⟨"ExtentIndexModel", "refusal", "(II)I"⟩) ∈ lw_all := lw_g (lw_at lw_ms 13 rfl) rfl
end
section
/-! java/lang/Object -/
set_option maxRecDepth 100000
def RJ0 : String := "java/lang/Object"
abbrev cJ0_init : ByteArray := object_method_1_code
def yJ0_init : MethodName := ⟨RJ0, "<init>", "()V"⟩
theorem dJ0_init_0 : decode cJ0_init 0 = .ok (.return_, 1) := by decide +kernel
theorem q23 : (Jvm.Cond.instanceMethod ({ cls := "java/lang/Object", name := "<init>", desc := "()V" } : Jvm.MethodName)) ∈ lw_all := lw_g (lw_at lw_m0 9 rfl) rfl
theorem q24 : (Jvm.Cond.code ({ cls := "java/lang/Object", name := "<init>", desc := "()V" } : Jvm.MethodName) object_method_1_code (1 : Nat) (Option.none : Option Jvm.ClassFile.FieldType)) ∈ lw_all := lw_g (lw_at lw_m0 10 rfl) rfl
theorem q57 : (Jvm.Cond.arrayClass Jvm.ClassFile.FieldType.int) ∈ lw_all := lw_g (lw_at lw_m0 43 rfl) rfl
set_option maxRecDepth 100000
theorem q146 : (Jvm.Cond.arrayClass Jvm.ClassFile.FieldType.boolean) ∈ lw_all := lw_g (lw_at lw_m0 132 rfl) rfl
/-! ExtentIndex -/
set_option maxRecDepth 100000
def RX0 : String := "ExtentIndex"
def TX0 : u_T := fun k => match k with
  | 0 => ("ExtentIndex", "count", "I", false)
  | 1 => ("ExtentIndex", "place", "[I", true)
  | 2 => ("ExtentIndex", "size", "[I", true)
  | 3 => ("ExtentIndex", "bySize", "[I", true)
  | _ => ("ExtentIndex", "total", "I", false)
def tyX0 : Nat → FieldType := fun k => match k with
  | 0 => .int
  | 1 => .array .int
  | 2 => .array .int
  | 3 => .array .int
  | _ => .int
abbrev wsX00 : List Cond := u_ws RX0 TX0 5
theorem nmX0 : ∀ a, a < 5 → ∀ b, b < 5 → a ≠ b → (TX0 a).2.1 ≠ (TX0 b).2.1 := by decide +kernel
theorem tyX0_ok : ∀ k, k < 5 → parseFieldDescriptor (TX0 k).2.2.1 = some (tyX0 k) := by decide +kernel
abbrev cX0_init : ByteArray := prog_1_method_1_code
def yX0_init : MethodName := ⟨RX0, "<init>", "()V"⟩
theorem dX0_init_0 : decode cX0_init 0 = .ok (.aload_n 0, 1) := by decide +kernel
theorem dX0_init_1 : decode cX0_init 1 = .ok (.invokespecial 1, 3) := by decide +kernel
theorem dX0_init_4 : decode cX0_init 4 = .ok (.aload_n 0, 1) := by decide +kernel
theorem dX0_init_5 : decode cX0_init 5 = .ok (.sipush 130, 3) := by decide +kernel
theorem dX0_init_8 : decode cX0_init 8 = .ok (.newarray .int, 2) := by decide +kernel
theorem dX0_init_10 : decode cX0_init 10 = .ok (.putfield 7, 3) := by decide +kernel
theorem dX0_init_13 : decode cX0_init 13 = .ok (.aload_n 0, 1) := by decide +kernel
theorem dX0_init_14 : decode cX0_init 14 = .ok (.sipush 130, 3) := by decide +kernel
theorem dX0_init_17 : decode cX0_init 17 = .ok (.newarray .int, 2) := by decide +kernel
theorem dX0_init_19 : decode cX0_init 19 = .ok (.putfield 13, 3) := by decide +kernel
theorem dX0_init_22 : decode cX0_init 22 = .ok (.aload_n 0, 1) := by decide +kernel
theorem dX0_init_23 : decode cX0_init 23 = .ok (.sipush 130, 3) := by decide +kernel
theorem dX0_init_26 : decode cX0_init 26 = .ok (.newarray .int, 2) := by decide +kernel
theorem dX0_init_28 : decode cX0_init 28 = .ok (.putfield 16, 3) := by decide +kernel
theorem dX0_init_31 : decode cX0_init 31 = .ok (.aload_n 0, 1) := by decide +kernel
theorem dX0_init_32 : decode cX0_init 32 = .ok (.invokevirtual 19, 3) := by decide +kernel
theorem dX0_init_35 : decode cX0_init 35 = .ok (.return_, 1) := by decide +kernel
abbrev cX0_clear : ByteArray := prog_1_method_17_code
def yX0_clear : MethodName := ⟨RX0, "clear", "()V"⟩
theorem dX0_clear_0 : decode cX0_clear 0 = .ok (.aload_n 0, 1) := by decide +kernel
theorem dX0_clear_1 : decode cX0_clear 1 = .ok (.iconst 0, 1) := by decide +kernel
theorem dX0_clear_2 : decode cX0_clear 2 = .ok (.putfield 22, 3) := by decide +kernel
theorem dX0_clear_5 : decode cX0_clear 5 = .ok (.aload_n 0, 1) := by decide +kernel
theorem dX0_clear_6 : decode cX0_clear 6 = .ok (.iconst 0, 1) := by decide +kernel
theorem dX0_clear_7 : decode cX0_clear 7 = .ok (.putfield 33, 3) := by decide +kernel
theorem dX0_clear_10 : decode cX0_clear 10 = .ok (.aload_n 0, 1) := by decide +kernel
theorem dX0_clear_11 : decode cX0_clear 11 = .ok (.iconst 0, 1) := by decide +kernel
theorem dX0_clear_12 : decode cX0_clear 12 = .ok (.sipush 256, 3) := by decide +kernel
theorem dX0_clear_15 : decode cX0_clear 15 = .ok (.invokevirtual 40, 3) := by decide +kernel
theorem dX0_clear_18 : decode cX0_clear 18 = .ok (.return_, 1) := by decide +kernel
abbrev cX0_insert : ByteArray := prog_1_method_6_code
def yX0_insert : MethodName := ⟨RX0, "insert", "(II)V"⟩
theorem dX0_insert_0 : decode cX0_insert 0 = .ok (.aload_n 0, 1) := by decide +kernel
theorem dX0_insert_1 : decode cX0_insert 1 = .ok (.iload_n 1, 1) := by decide +kernel
theorem dX0_insert_2 : decode cX0_insert 2 = .ok (.invokevirtual 26, 3) := by decide +kernel
theorem dX0_insert_5 : decode cX0_insert 5 = .ok (.istore_n 3, 1) := by decide +kernel
theorem dX0_insert_6 : decode cX0_insert 6 = .ok (.aload_n 0, 1) := by decide +kernel
theorem dX0_insert_7 : decode cX0_insert 7 = .ok (.iload_n 2, 1) := by decide +kernel
theorem dX0_insert_8 : decode cX0_insert 8 = .ok (.sipush 256, 3) := by decide +kernel
theorem dX0_insert_11 : decode cX0_insert 11 = .ok (.imul, 1) := by decide +kernel
theorem dX0_insert_12 : decode cX0_insert 12 = .ok (.iload_n 1, 1) := by decide +kernel
theorem dX0_insert_13 : decode cX0_insert 13 = .ok (.iadd, 1) := by decide +kernel
theorem dX0_insert_14 : decode cX0_insert 14 = .ok (.invokevirtual 30, 3) := by decide +kernel
theorem dX0_insert_17 : decode cX0_insert 17 = .ok (.istore 4, 2) := by decide +kernel
theorem dX0_insert_19 : decode cX0_insert 19 = .ok (.aload_n 0, 1) := by decide +kernel
theorem dX0_insert_20 : decode cX0_insert 20 = .ok (.getfield 22, 3) := by decide +kernel
theorem dX0_insert_23 : decode cX0_insert 23 = .ok (.istore 5, 2) := by decide +kernel
theorem dX0_insert_25 : decode cX0_insert 25 = .ok (.iload 5, 2) := by decide +kernel
theorem dX0_insert_27 : decode cX0_insert 27 = .ok (.iload_n 3, 1) := by decide +kernel
theorem dX0_insert_28 : decode cX0_insert 28 = .ok (.if_icmp .le 41, 3) := by decide +kernel
theorem dX0_insert_31 : decode cX0_insert 31 = .ok (.aload_n 0, 1) := by decide +kernel
theorem dX0_insert_32 : decode cX0_insert 32 = .ok (.getfield 7, 3) := by decide +kernel
theorem dX0_insert_35 : decode cX0_insert 35 = .ok (.iload 5, 2) := by decide +kernel
theorem dX0_insert_37 : decode cX0_insert 37 = .ok (.aload_n 0, 1) := by decide +kernel
theorem dX0_insert_38 : decode cX0_insert 38 = .ok (.getfield 7, 3) := by decide +kernel
theorem dX0_insert_41 : decode cX0_insert 41 = .ok (.iload 5, 2) := by decide +kernel
theorem dX0_insert_43 : decode cX0_insert 43 = .ok (.iconst 1, 1) := by decide +kernel
theorem dX0_insert_44 : decode cX0_insert 44 = .ok (.isub, 1) := by decide +kernel
theorem dX0_insert_45 : decode cX0_insert 45 = .ok (.iaload, 1) := by decide +kernel
theorem dX0_insert_46 : decode cX0_insert 46 = .ok (.iastore, 1) := by decide +kernel
theorem dX0_insert_47 : decode cX0_insert 47 = .ok (.aload_n 0, 1) := by decide +kernel
theorem dX0_insert_48 : decode cX0_insert 48 = .ok (.getfield 13, 3) := by decide +kernel
theorem dX0_insert_51 : decode cX0_insert 51 = .ok (.iload 5, 2) := by decide +kernel
theorem dX0_insert_53 : decode cX0_insert 53 = .ok (.aload_n 0, 1) := by decide +kernel
theorem dX0_insert_54 : decode cX0_insert 54 = .ok (.getfield 13, 3) := by decide +kernel
theorem dX0_insert_57 : decode cX0_insert 57 = .ok (.iload 5, 2) := by decide +kernel
theorem dX0_insert_59 : decode cX0_insert 59 = .ok (.iconst 1, 1) := by decide +kernel
theorem dX0_insert_60 : decode cX0_insert 60 = .ok (.isub, 1) := by decide +kernel
theorem dX0_insert_61 : decode cX0_insert 61 = .ok (.iaload, 1) := by decide +kernel
theorem dX0_insert_62 : decode cX0_insert 62 = .ok (.iastore, 1) := by decide +kernel
theorem dX0_insert_63 : decode cX0_insert 63 = .ok (.iinc 5 (-1), 3) := by decide +kernel
theorem dX0_insert_66 : decode cX0_insert 66 = .ok (.goto (-41), 3) := by decide +kernel
theorem dX0_insert_69 : decode cX0_insert 69 = .ok (.aload_n 0, 1) := by decide +kernel
theorem dX0_insert_70 : decode cX0_insert 70 = .ok (.getfield 22, 3) := by decide +kernel
theorem dX0_insert_73 : decode cX0_insert 73 = .ok (.istore 5, 2) := by decide +kernel
theorem dX0_insert_75 : decode cX0_insert 75 = .ok (.iload 5, 2) := by decide +kernel
theorem dX0_insert_77 : decode cX0_insert 77 = .ok (.iload 4, 2) := by decide +kernel
theorem dX0_insert_79 : decode cX0_insert 79 = .ok (.if_icmp .le 25, 3) := by decide +kernel
theorem dX0_insert_82 : decode cX0_insert 82 = .ok (.aload_n 0, 1) := by decide +kernel
theorem dX0_insert_83 : decode cX0_insert 83 = .ok (.getfield 16, 3) := by decide +kernel
theorem dX0_insert_86 : decode cX0_insert 86 = .ok (.iload 5, 2) := by decide +kernel
theorem dX0_insert_88 : decode cX0_insert 88 = .ok (.aload_n 0, 1) := by decide +kernel
theorem dX0_insert_89 : decode cX0_insert 89 = .ok (.getfield 16, 3) := by decide +kernel
theorem dX0_insert_92 : decode cX0_insert 92 = .ok (.iload 5, 2) := by decide +kernel
theorem dX0_insert_94 : decode cX0_insert 94 = .ok (.iconst 1, 1) := by decide +kernel
theorem dX0_insert_95 : decode cX0_insert 95 = .ok (.isub, 1) := by decide +kernel
theorem dX0_insert_96 : decode cX0_insert 96 = .ok (.iaload, 1) := by decide +kernel
theorem dX0_insert_97 : decode cX0_insert 97 = .ok (.iastore, 1) := by decide +kernel
theorem dX0_insert_98 : decode cX0_insert 98 = .ok (.iinc 5 (-1), 3) := by decide +kernel
theorem dX0_insert_101 : decode cX0_insert 101 = .ok (.goto (-26), 3) := by decide +kernel
theorem dX0_insert_104 : decode cX0_insert 104 = .ok (.aload_n 0, 1) := by decide +kernel
theorem dX0_insert_105 : decode cX0_insert 105 = .ok (.getfield 7, 3) := by decide +kernel
theorem dX0_insert_108 : decode cX0_insert 108 = .ok (.iload_n 3, 1) := by decide +kernel
theorem dX0_insert_109 : decode cX0_insert 109 = .ok (.iload_n 1, 1) := by decide +kernel
theorem dX0_insert_110 : decode cX0_insert 110 = .ok (.iastore, 1) := by decide +kernel
theorem dX0_insert_111 : decode cX0_insert 111 = .ok (.aload_n 0, 1) := by decide +kernel
theorem dX0_insert_112 : decode cX0_insert 112 = .ok (.getfield 13, 3) := by decide +kernel
theorem dX0_insert_115 : decode cX0_insert 115 = .ok (.iload_n 3, 1) := by decide +kernel
theorem dX0_insert_116 : decode cX0_insert 116 = .ok (.iload_n 2, 1) := by decide +kernel
theorem dX0_insert_117 : decode cX0_insert 117 = .ok (.iastore, 1) := by decide +kernel
theorem dX0_insert_118 : decode cX0_insert 118 = .ok (.aload_n 0, 1) := by decide +kernel
theorem dX0_insert_119 : decode cX0_insert 119 = .ok (.getfield 16, 3) := by decide +kernel
theorem dX0_insert_122 : decode cX0_insert 122 = .ok (.iload 4, 2) := by decide +kernel
theorem dX0_insert_124 : decode cX0_insert 124 = .ok (.iload_n 2, 1) := by decide +kernel
theorem dX0_insert_125 : decode cX0_insert 125 = .ok (.sipush 256, 3) := by decide +kernel
theorem dX0_insert_128 : decode cX0_insert 128 = .ok (.imul, 1) := by decide +kernel
theorem dX0_insert_129 : decode cX0_insert 129 = .ok (.iload_n 1, 1) := by decide +kernel
theorem dX0_insert_130 : decode cX0_insert 130 = .ok (.iadd, 1) := by decide +kernel
theorem dX0_insert_131 : decode cX0_insert 131 = .ok (.iastore, 1) := by decide +kernel
theorem dX0_insert_132 : decode cX0_insert 132 = .ok (.aload_n 0, 1) := by decide +kernel
theorem dX0_insert_133 : decode cX0_insert 133 = .ok (.dup, 1) := by decide +kernel
theorem dX0_insert_134 : decode cX0_insert 134 = .ok (.getfield 22, 3) := by decide +kernel
theorem dX0_insert_137 : decode cX0_insert 137 = .ok (.iconst 1, 1) := by decide +kernel
theorem dX0_insert_138 : decode cX0_insert 138 = .ok (.iadd, 1) := by decide +kernel
theorem dX0_insert_139 : decode cX0_insert 139 = .ok (.putfield 22, 3) := by decide +kernel
theorem dX0_insert_142 : decode cX0_insert 142 = .ok (.aload_n 0, 1) := by decide +kernel
theorem dX0_insert_143 : decode cX0_insert 143 = .ok (.dup, 1) := by decide +kernel
theorem dX0_insert_144 : decode cX0_insert 144 = .ok (.getfield 33, 3) := by decide +kernel
theorem dX0_insert_147 : decode cX0_insert 147 = .ok (.iload_n 2, 1) := by decide +kernel
theorem dX0_insert_148 : decode cX0_insert 148 = .ok (.iadd, 1) := by decide +kernel
theorem dX0_insert_149 : decode cX0_insert 149 = .ok (.putfield 33, 3) := by decide +kernel
theorem dX0_insert_152 : decode cX0_insert 152 = .ok (.return_, 1) := by decide +kernel
abbrev cX0_firstFrom : ByteArray := prog_1_method_4_code
def yX0_firstFrom : MethodName := ⟨RX0, "firstFrom", "(I)I"⟩
theorem dX0_firstFrom_0 : decode cX0_firstFrom 0 = .ok (.iconst 0, 1) := by decide +kernel
theorem dX0_firstFrom_1 : decode cX0_firstFrom 1 = .ok (.istore_n 2, 1) := by decide +kernel
theorem dX0_firstFrom_2 : decode cX0_firstFrom 2 = .ok (.aload_n 0, 1) := by decide +kernel
theorem dX0_firstFrom_3 : decode cX0_firstFrom 3 = .ok (.getfield 22, 3) := by decide +kernel
theorem dX0_firstFrom_6 : decode cX0_firstFrom 6 = .ok (.istore_n 3, 1) := by decide +kernel
theorem dX0_firstFrom_7 : decode cX0_firstFrom 7 = .ok (.iload_n 2, 1) := by decide +kernel
theorem dX0_firstFrom_8 : decode cX0_firstFrom 8 = .ok (.iload_n 3, 1) := by decide +kernel
theorem dX0_firstFrom_9 : decode cX0_firstFrom 9 = .ok (.if_icmp .ge 35, 3) := by decide +kernel
theorem dX0_firstFrom_12 : decode cX0_firstFrom 12 = .ok (.iload_n 2, 1) := by decide +kernel
theorem dX0_firstFrom_13 : decode cX0_firstFrom 13 = .ok (.iload_n 3, 1) := by decide +kernel
theorem dX0_firstFrom_14 : decode cX0_firstFrom 14 = .ok (.iadd, 1) := by decide +kernel
theorem dX0_firstFrom_15 : decode cX0_firstFrom 15 = .ok (.iconst 2, 1) := by decide +kernel
theorem dX0_firstFrom_16 : decode cX0_firstFrom 16 = .ok (.idiv, 1) := by decide +kernel
theorem dX0_firstFrom_17 : decode cX0_firstFrom 17 = .ok (.istore 4, 2) := by decide +kernel
theorem dX0_firstFrom_19 : decode cX0_firstFrom 19 = .ok (.aload_n 0, 1) := by decide +kernel
theorem dX0_firstFrom_20 : decode cX0_firstFrom 20 = .ok (.getfield 7, 3) := by decide +kernel
theorem dX0_firstFrom_23 : decode cX0_firstFrom 23 = .ok (.iload 4, 2) := by decide +kernel
theorem dX0_firstFrom_25 : decode cX0_firstFrom 25 = .ok (.iaload, 1) := by decide +kernel
theorem dX0_firstFrom_26 : decode cX0_firstFrom 26 = .ok (.iload_n 1, 1) := by decide +kernel
theorem dX0_firstFrom_27 : decode cX0_firstFrom 27 = .ok (.if_icmp .ge 11, 3) := by decide +kernel
theorem dX0_firstFrom_30 : decode cX0_firstFrom 30 = .ok (.iload 4, 2) := by decide +kernel
theorem dX0_firstFrom_32 : decode cX0_firstFrom 32 = .ok (.iconst 1, 1) := by decide +kernel
theorem dX0_firstFrom_33 : decode cX0_firstFrom 33 = .ok (.iadd, 1) := by decide +kernel
theorem dX0_firstFrom_34 : decode cX0_firstFrom 34 = .ok (.istore_n 2, 1) := by decide +kernel
theorem dX0_firstFrom_35 : decode cX0_firstFrom 35 = .ok (.goto 6, 3) := by decide +kernel
theorem dX0_firstFrom_38 : decode cX0_firstFrom 38 = .ok (.iload 4, 2) := by decide +kernel
theorem dX0_firstFrom_40 : decode cX0_firstFrom 40 = .ok (.istore_n 3, 1) := by decide +kernel
theorem dX0_firstFrom_41 : decode cX0_firstFrom 41 = .ok (.goto (-34), 3) := by decide +kernel
theorem dX0_firstFrom_44 : decode cX0_firstFrom 44 = .ok (.iload_n 2, 1) := by decide +kernel
theorem dX0_firstFrom_45 : decode cX0_firstFrom 45 = .ok (.ireturn, 1) := by decide +kernel
abbrev cX0_keyFrom : ByteArray := prog_1_method_5_code
def yX0_keyFrom : MethodName := ⟨RX0, "keyFrom", "(I)I"⟩
theorem dX0_keyFrom_0 : decode cX0_keyFrom 0 = .ok (.iconst 0, 1) := by decide +kernel
theorem dX0_keyFrom_1 : decode cX0_keyFrom 1 = .ok (.istore_n 2, 1) := by decide +kernel
theorem dX0_keyFrom_2 : decode cX0_keyFrom 2 = .ok (.aload_n 0, 1) := by decide +kernel
theorem dX0_keyFrom_3 : decode cX0_keyFrom 3 = .ok (.getfield 22, 3) := by decide +kernel
theorem dX0_keyFrom_6 : decode cX0_keyFrom 6 = .ok (.istore_n 3, 1) := by decide +kernel
theorem dX0_keyFrom_7 : decode cX0_keyFrom 7 = .ok (.iload_n 2, 1) := by decide +kernel
theorem dX0_keyFrom_8 : decode cX0_keyFrom 8 = .ok (.iload_n 3, 1) := by decide +kernel
theorem dX0_keyFrom_9 : decode cX0_keyFrom 9 = .ok (.if_icmp .ge 35, 3) := by decide +kernel
theorem dX0_keyFrom_12 : decode cX0_keyFrom 12 = .ok (.iload_n 2, 1) := by decide +kernel
theorem dX0_keyFrom_13 : decode cX0_keyFrom 13 = .ok (.iload_n 3, 1) := by decide +kernel
theorem dX0_keyFrom_14 : decode cX0_keyFrom 14 = .ok (.iadd, 1) := by decide +kernel
theorem dX0_keyFrom_15 : decode cX0_keyFrom 15 = .ok (.iconst 2, 1) := by decide +kernel
theorem dX0_keyFrom_16 : decode cX0_keyFrom 16 = .ok (.idiv, 1) := by decide +kernel
theorem dX0_keyFrom_17 : decode cX0_keyFrom 17 = .ok (.istore 4, 2) := by decide +kernel
theorem dX0_keyFrom_19 : decode cX0_keyFrom 19 = .ok (.aload_n 0, 1) := by decide +kernel
theorem dX0_keyFrom_20 : decode cX0_keyFrom 20 = .ok (.getfield 16, 3) := by decide +kernel
theorem dX0_keyFrom_23 : decode cX0_keyFrom 23 = .ok (.iload 4, 2) := by decide +kernel
theorem dX0_keyFrom_25 : decode cX0_keyFrom 25 = .ok (.iaload, 1) := by decide +kernel
theorem dX0_keyFrom_26 : decode cX0_keyFrom 26 = .ok (.iload_n 1, 1) := by decide +kernel
theorem dX0_keyFrom_27 : decode cX0_keyFrom 27 = .ok (.if_icmp .ge 11, 3) := by decide +kernel
theorem dX0_keyFrom_30 : decode cX0_keyFrom 30 = .ok (.iload 4, 2) := by decide +kernel
theorem dX0_keyFrom_32 : decode cX0_keyFrom 32 = .ok (.iconst 1, 1) := by decide +kernel
theorem dX0_keyFrom_33 : decode cX0_keyFrom 33 = .ok (.iadd, 1) := by decide +kernel
theorem dX0_keyFrom_34 : decode cX0_keyFrom 34 = .ok (.istore_n 2, 1) := by decide +kernel
theorem dX0_keyFrom_35 : decode cX0_keyFrom 35 = .ok (.goto 6, 3) := by decide +kernel
theorem dX0_keyFrom_38 : decode cX0_keyFrom 38 = .ok (.iload 4, 2) := by decide +kernel
theorem dX0_keyFrom_40 : decode cX0_keyFrom 40 = .ok (.istore_n 3, 1) := by decide +kernel
theorem dX0_keyFrom_41 : decode cX0_keyFrom 41 = .ok (.goto (-34), 3) := by decide +kernel
theorem dX0_keyFrom_44 : decode cX0_keyFrom 44 = .ok (.iload_n 2, 1) := by decide +kernel
theorem dX0_keyFrom_45 : decode cX0_keyFrom 45 = .ok (.ireturn, 1) := by decide +kernel
abbrev cX0_take : ByteArray := prog_1_method_10_code
def yX0_take : MethodName := ⟨RX0, "take", "(I)I"⟩
theorem dX0_take_0 : decode cX0_take 0 = .ok (.iload_n 1, 1) := by decide +kernel
theorem dX0_take_1 : decode cX0_take 1 = .ok (.invokestatic 44, 3) := by decide +kernel
theorem dX0_take_4 : decode cX0_take 4 = .ok (.ifCond .eq 6, 3) := by decide +kernel
theorem dX0_take_7 : decode cX0_take 7 = .ok (.bipush (-2), 2) := by decide +kernel
theorem dX0_take_9 : decode cX0_take 9 = .ok (.ireturn, 1) := by decide +kernel
theorem dX0_take_10 : decode cX0_take 10 = .ok (.aload_n 0, 1) := by decide +kernel
theorem dX0_take_11 : decode cX0_take 11 = .ok (.iload_n 1, 1) := by decide +kernel
theorem dX0_take_12 : decode cX0_take 12 = .ok (.sipush 256, 3) := by decide +kernel
theorem dX0_take_15 : decode cX0_take 15 = .ok (.imul, 1) := by decide +kernel
theorem dX0_take_16 : decode cX0_take 16 = .ok (.invokevirtual 30, 3) := by decide +kernel
theorem dX0_take_19 : decode cX0_take 19 = .ok (.istore_n 2, 1) := by decide +kernel
theorem dX0_take_20 : decode cX0_take 20 = .ok (.iload_n 2, 1) := by decide +kernel
theorem dX0_take_21 : decode cX0_take 21 = .ok (.aload_n 0, 1) := by decide +kernel
theorem dX0_take_22 : decode cX0_take 22 = .ok (.getfield 22, 3) := by decide +kernel
theorem dX0_take_25 : decode cX0_take 25 = .ok (.if_icmp .ne 6, 3) := by decide +kernel
theorem dX0_take_28 : decode cX0_take 28 = .ok (.bipush (-3), 2) := by decide +kernel
theorem dX0_take_30 : decode cX0_take 30 = .ok (.ireturn, 1) := by decide +kernel
theorem dX0_take_31 : decode cX0_take 31 = .ok (.aload_n 0, 1) := by decide +kernel
theorem dX0_take_32 : decode cX0_take 32 = .ok (.getfield 16, 3) := by decide +kernel
theorem dX0_take_35 : decode cX0_take 35 = .ok (.iload_n 2, 1) := by decide +kernel
theorem dX0_take_36 : decode cX0_take 36 = .ok (.iaload, 1) := by decide +kernel
theorem dX0_take_37 : decode cX0_take 37 = .ok (.sipush 256, 3) := by decide +kernel
theorem dX0_take_40 : decode cX0_take 40 = .ok (.irem, 1) := by decide +kernel
theorem dX0_take_41 : decode cX0_take 41 = .ok (.istore_n 3, 1) := by decide +kernel
theorem dX0_take_42 : decode cX0_take 42 = .ok (.aload_n 0, 1) := by decide +kernel
theorem dX0_take_43 : decode cX0_take 43 = .ok (.iload_n 3, 1) := by decide +kernel
theorem dX0_take_44 : decode cX0_take 44 = .ok (.invokevirtual 26, 3) := by decide +kernel
theorem dX0_take_47 : decode cX0_take 47 = .ok (.istore 4, 2) := by decide +kernel
theorem dX0_take_49 : decode cX0_take 49 = .ok (.aload_n 0, 1) := by decide +kernel
theorem dX0_take_50 : decode cX0_take 50 = .ok (.iload 4, 2) := by decide +kernel
theorem dX0_take_52 : decode cX0_take 52 = .ok (.iload_n 3, 1) := by decide +kernel
theorem dX0_take_53 : decode cX0_take 53 = .ok (.iload_n 1, 1) := by decide +kernel
theorem dX0_take_54 : decode cX0_take 54 = .ok (.invokevirtual 48, 3) := by decide +kernel
theorem dX0_take_57 : decode cX0_take 57 = .ok (.iload_n 3, 1) := by decide +kernel
theorem dX0_take_58 : decode cX0_take 58 = .ok (.ireturn, 1) := by decide +kernel
abbrev cX0_badSize : ByteArray := prog_1_method_3_code
def yX0_badSize : MethodName := ⟨RX0, "badSize", "(I)Z"⟩
theorem dX0_badSize_0 : decode cX0_badSize 0 = .ok (.iload_n 0, 1) := by decide +kernel
theorem dX0_badSize_1 : decode cX0_badSize 1 = .ok (.iconst 1, 1) := by decide +kernel
theorem dX0_badSize_2 : decode cX0_badSize 2 = .ok (.if_icmp .lt 10, 3) := by decide +kernel
theorem dX0_badSize_5 : decode cX0_badSize 5 = .ok (.iload_n 0, 1) := by decide +kernel
theorem dX0_badSize_6 : decode cX0_badSize 6 = .ok (.sipush 256, 3) := by decide +kernel
theorem dX0_badSize_9 : decode cX0_badSize 9 = .ok (.if_icmp .le 7, 3) := by decide +kernel
theorem dX0_badSize_12 : decode cX0_badSize 12 = .ok (.iconst 1, 1) := by decide +kernel
theorem dX0_badSize_13 : decode cX0_badSize 13 = .ok (.goto 4, 3) := by decide +kernel
theorem dX0_badSize_16 : decode cX0_badSize 16 = .ok (.iconst 0, 1) := by decide +kernel
theorem dX0_badSize_17 : decode cX0_badSize 17 = .ok (.ireturn, 1) := by decide +kernel
abbrev cX0_cut : ByteArray := prog_1_method_9_code
def yX0_cut : MethodName := ⟨RX0, "cut", "(III)V"⟩
theorem dX0_cut_0 : decode cX0_cut 0 = .ok (.aload_n 0, 1) := by decide +kernel
theorem dX0_cut_1 : decode cX0_cut 1 = .ok (.getfield 7, 3) := by decide +kernel
theorem dX0_cut_4 : decode cX0_cut 4 = .ok (.iload_n 1, 1) := by decide +kernel
theorem dX0_cut_5 : decode cX0_cut 5 = .ok (.iaload, 1) := by decide +kernel
theorem dX0_cut_6 : decode cX0_cut 6 = .ok (.istore 4, 2) := by decide +kernel
theorem dX0_cut_8 : decode cX0_cut 8 = .ok (.iload 4, 2) := by decide +kernel
theorem dX0_cut_10 : decode cX0_cut 10 = .ok (.aload_n 0, 1) := by decide +kernel
theorem dX0_cut_11 : decode cX0_cut 11 = .ok (.getfield 13, 3) := by decide +kernel
theorem dX0_cut_14 : decode cX0_cut 14 = .ok (.iload_n 1, 1) := by decide +kernel
theorem dX0_cut_15 : decode cX0_cut 15 = .ok (.iaload, 1) := by decide +kernel
theorem dX0_cut_16 : decode cX0_cut 16 = .ok (.iadd, 1) := by decide +kernel
theorem dX0_cut_17 : decode cX0_cut 17 = .ok (.istore 5, 2) := by decide +kernel
theorem dX0_cut_19 : decode cX0_cut 19 = .ok (.aload_n 0, 1) := by decide +kernel
theorem dX0_cut_20 : decode cX0_cut 20 = .ok (.iload_n 1, 1) := by decide +kernel
theorem dX0_cut_21 : decode cX0_cut 21 = .ok (.invokevirtual 36, 3) := by decide +kernel
theorem dX0_cut_24 : decode cX0_cut 24 = .ok (.iload_n 2, 1) := by decide +kernel
theorem dX0_cut_25 : decode cX0_cut 25 = .ok (.iload 4, 2) := by decide +kernel
theorem dX0_cut_27 : decode cX0_cut 27 = .ok (.if_icmp .le 13, 3) := by decide +kernel
theorem dX0_cut_30 : decode cX0_cut 30 = .ok (.aload_n 0, 1) := by decide +kernel
theorem dX0_cut_31 : decode cX0_cut 31 = .ok (.iload 4, 2) := by decide +kernel
theorem dX0_cut_33 : decode cX0_cut 33 = .ok (.iload_n 2, 1) := by decide +kernel
theorem dX0_cut_34 : decode cX0_cut 34 = .ok (.iload 4, 2) := by decide +kernel
theorem dX0_cut_36 : decode cX0_cut 36 = .ok (.isub, 1) := by decide +kernel
theorem dX0_cut_37 : decode cX0_cut 37 = .ok (.invokevirtual 40, 3) := by decide +kernel
theorem dX0_cut_40 : decode cX0_cut 40 = .ok (.iload_n 2, 1) := by decide +kernel
theorem dX0_cut_41 : decode cX0_cut 41 = .ok (.iload_n 3, 1) := by decide +kernel
theorem dX0_cut_42 : decode cX0_cut 42 = .ok (.iadd, 1) := by decide +kernel
theorem dX0_cut_43 : decode cX0_cut 43 = .ok (.iload 5, 2) := by decide +kernel
theorem dX0_cut_45 : decode cX0_cut 45 = .ok (.if_icmp .ge 16, 3) := by decide +kernel
theorem dX0_cut_48 : decode cX0_cut 48 = .ok (.aload_n 0, 1) := by decide +kernel
theorem dX0_cut_49 : decode cX0_cut 49 = .ok (.iload_n 2, 1) := by decide +kernel
theorem dX0_cut_50 : decode cX0_cut 50 = .ok (.iload_n 3, 1) := by decide +kernel
theorem dX0_cut_51 : decode cX0_cut 51 = .ok (.iadd, 1) := by decide +kernel
theorem dX0_cut_52 : decode cX0_cut 52 = .ok (.iload 5, 2) := by decide +kernel
theorem dX0_cut_54 : decode cX0_cut 54 = .ok (.iload_n 2, 1) := by decide +kernel
theorem dX0_cut_55 : decode cX0_cut 55 = .ok (.isub, 1) := by decide +kernel
theorem dX0_cut_56 : decode cX0_cut 56 = .ok (.iload_n 3, 1) := by decide +kernel
theorem dX0_cut_57 : decode cX0_cut 57 = .ok (.isub, 1) := by decide +kernel
theorem dX0_cut_58 : decode cX0_cut 58 = .ok (.invokevirtual 40, 3) := by decide +kernel
theorem dX0_cut_61 : decode cX0_cut 61 = .ok (.return_, 1) := by decide +kernel
abbrev cX0_remove : ByteArray := prog_1_method_7_code
def yX0_remove : MethodName := ⟨RX0, "remove", "(I)V"⟩
theorem dX0_remove_0 : decode cX0_remove 0 = .ok (.aload_n 0, 1) := by decide +kernel
theorem dX0_remove_1 : decode cX0_remove 1 = .ok (.aload_n 0, 1) := by decide +kernel
theorem dX0_remove_2 : decode cX0_remove 2 = .ok (.getfield 13, 3) := by decide +kernel
theorem dX0_remove_5 : decode cX0_remove 5 = .ok (.iload_n 1, 1) := by decide +kernel
theorem dX0_remove_6 : decode cX0_remove 6 = .ok (.iaload, 1) := by decide +kernel
theorem dX0_remove_7 : decode cX0_remove 7 = .ok (.sipush 256, 3) := by decide +kernel
theorem dX0_remove_10 : decode cX0_remove 10 = .ok (.imul, 1) := by decide +kernel
theorem dX0_remove_11 : decode cX0_remove 11 = .ok (.aload_n 0, 1) := by decide +kernel
theorem dX0_remove_12 : decode cX0_remove 12 = .ok (.getfield 7, 3) := by decide +kernel
theorem dX0_remove_15 : decode cX0_remove 15 = .ok (.iload_n 1, 1) := by decide +kernel
theorem dX0_remove_16 : decode cX0_remove 16 = .ok (.iaload, 1) := by decide +kernel
theorem dX0_remove_17 : decode cX0_remove 17 = .ok (.iadd, 1) := by decide +kernel
theorem dX0_remove_18 : decode cX0_remove 18 = .ok (.invokevirtual 30, 3) := by decide +kernel
theorem dX0_remove_21 : decode cX0_remove 21 = .ok (.istore_n 2, 1) := by decide +kernel
theorem dX0_remove_22 : decode cX0_remove 22 = .ok (.aload_n 0, 1) := by decide +kernel
theorem dX0_remove_23 : decode cX0_remove 23 = .ok (.dup, 1) := by decide +kernel
theorem dX0_remove_24 : decode cX0_remove 24 = .ok (.getfield 33, 3) := by decide +kernel
theorem dX0_remove_27 : decode cX0_remove 27 = .ok (.aload_n 0, 1) := by decide +kernel
theorem dX0_remove_28 : decode cX0_remove 28 = .ok (.getfield 13, 3) := by decide +kernel
theorem dX0_remove_31 : decode cX0_remove 31 = .ok (.iload_n 1, 1) := by decide +kernel
theorem dX0_remove_32 : decode cX0_remove 32 = .ok (.iaload, 1) := by decide +kernel
theorem dX0_remove_33 : decode cX0_remove 33 = .ok (.isub, 1) := by decide +kernel
theorem dX0_remove_34 : decode cX0_remove 34 = .ok (.putfield 33, 3) := by decide +kernel
theorem dX0_remove_37 : decode cX0_remove 37 = .ok (.aload_n 0, 1) := by decide +kernel
theorem dX0_remove_38 : decode cX0_remove 38 = .ok (.dup, 1) := by decide +kernel
theorem dX0_remove_39 : decode cX0_remove 39 = .ok (.getfield 22, 3) := by decide +kernel
theorem dX0_remove_42 : decode cX0_remove 42 = .ok (.iconst 1, 1) := by decide +kernel
theorem dX0_remove_43 : decode cX0_remove 43 = .ok (.isub, 1) := by decide +kernel
theorem dX0_remove_44 : decode cX0_remove 44 = .ok (.putfield 22, 3) := by decide +kernel
theorem dX0_remove_47 : decode cX0_remove 47 = .ok (.iload_n 1, 1) := by decide +kernel
theorem dX0_remove_48 : decode cX0_remove 48 = .ok (.istore_n 3, 1) := by decide +kernel
theorem dX0_remove_49 : decode cX0_remove 49 = .ok (.iload_n 3, 1) := by decide +kernel
theorem dX0_remove_50 : decode cX0_remove 50 = .ok (.aload_n 0, 1) := by decide +kernel
theorem dX0_remove_51 : decode cX0_remove 51 = .ok (.getfield 22, 3) := by decide +kernel
theorem dX0_remove_54 : decode cX0_remove 54 = .ok (.if_icmp .ge 37, 3) := by decide +kernel
theorem dX0_remove_57 : decode cX0_remove 57 = .ok (.aload_n 0, 1) := by decide +kernel
theorem dX0_remove_58 : decode cX0_remove 58 = .ok (.getfield 7, 3) := by decide +kernel
theorem dX0_remove_61 : decode cX0_remove 61 = .ok (.iload_n 3, 1) := by decide +kernel
theorem dX0_remove_62 : decode cX0_remove 62 = .ok (.aload_n 0, 1) := by decide +kernel
theorem dX0_remove_63 : decode cX0_remove 63 = .ok (.getfield 7, 3) := by decide +kernel
theorem dX0_remove_66 : decode cX0_remove 66 = .ok (.iload_n 3, 1) := by decide +kernel
theorem dX0_remove_67 : decode cX0_remove 67 = .ok (.iconst 1, 1) := by decide +kernel
theorem dX0_remove_68 : decode cX0_remove 68 = .ok (.iadd, 1) := by decide +kernel
theorem dX0_remove_69 : decode cX0_remove 69 = .ok (.iaload, 1) := by decide +kernel
theorem dX0_remove_70 : decode cX0_remove 70 = .ok (.iastore, 1) := by decide +kernel
theorem dX0_remove_71 : decode cX0_remove 71 = .ok (.aload_n 0, 1) := by decide +kernel
theorem dX0_remove_72 : decode cX0_remove 72 = .ok (.getfield 13, 3) := by decide +kernel
theorem dX0_remove_75 : decode cX0_remove 75 = .ok (.iload_n 3, 1) := by decide +kernel
theorem dX0_remove_76 : decode cX0_remove 76 = .ok (.aload_n 0, 1) := by decide +kernel
theorem dX0_remove_77 : decode cX0_remove 77 = .ok (.getfield 13, 3) := by decide +kernel
theorem dX0_remove_80 : decode cX0_remove 80 = .ok (.iload_n 3, 1) := by decide +kernel
theorem dX0_remove_81 : decode cX0_remove 81 = .ok (.iconst 1, 1) := by decide +kernel
theorem dX0_remove_82 : decode cX0_remove 82 = .ok (.iadd, 1) := by decide +kernel
theorem dX0_remove_83 : decode cX0_remove 83 = .ok (.iaload, 1) := by decide +kernel
theorem dX0_remove_84 : decode cX0_remove 84 = .ok (.iastore, 1) := by decide +kernel
theorem dX0_remove_85 : decode cX0_remove 85 = .ok (.iinc 3 1, 3) := by decide +kernel
theorem dX0_remove_88 : decode cX0_remove 88 = .ok (.goto (-39), 3) := by decide +kernel
theorem dX0_remove_91 : decode cX0_remove 91 = .ok (.iload_n 2, 1) := by decide +kernel
theorem dX0_remove_92 : decode cX0_remove 92 = .ok (.istore_n 3, 1) := by decide +kernel
theorem dX0_remove_93 : decode cX0_remove 93 = .ok (.iload_n 3, 1) := by decide +kernel
theorem dX0_remove_94 : decode cX0_remove 94 = .ok (.aload_n 0, 1) := by decide +kernel
theorem dX0_remove_95 : decode cX0_remove 95 = .ok (.getfield 22, 3) := by decide +kernel
theorem dX0_remove_98 : decode cX0_remove 98 = .ok (.if_icmp .ge 23, 3) := by decide +kernel
theorem dX0_remove_101 : decode cX0_remove 101 = .ok (.aload_n 0, 1) := by decide +kernel
theorem dX0_remove_102 : decode cX0_remove 102 = .ok (.getfield 16, 3) := by decide +kernel
theorem dX0_remove_105 : decode cX0_remove 105 = .ok (.iload_n 3, 1) := by decide +kernel
theorem dX0_remove_106 : decode cX0_remove 106 = .ok (.aload_n 0, 1) := by decide +kernel
theorem dX0_remove_107 : decode cX0_remove 107 = .ok (.getfield 16, 3) := by decide +kernel
theorem dX0_remove_110 : decode cX0_remove 110 = .ok (.iload_n 3, 1) := by decide +kernel
theorem dX0_remove_111 : decode cX0_remove 111 = .ok (.iconst 1, 1) := by decide +kernel
theorem dX0_remove_112 : decode cX0_remove 112 = .ok (.iadd, 1) := by decide +kernel
theorem dX0_remove_113 : decode cX0_remove 113 = .ok (.iaload, 1) := by decide +kernel
theorem dX0_remove_114 : decode cX0_remove 114 = .ok (.iastore, 1) := by decide +kernel
theorem dX0_remove_115 : decode cX0_remove 115 = .ok (.iinc 3 1, 3) := by decide +kernel
theorem dX0_remove_118 : decode cX0_remove 118 = .ok (.goto (-25), 3) := by decide +kernel
theorem dX0_remove_121 : decode cX0_remove 121 = .ok (.return_, 1) := by decide +kernel
abbrev cX0_takeNear : ByteArray := prog_1_method_11_code
def yX0_takeNear : MethodName := ⟨RX0, "takeNear", "(II)I"⟩
theorem dX0_takeNear_0 : decode cX0_takeNear 0 = .ok (.iload_n 1, 1) := by decide +kernel
theorem dX0_takeNear_1 : decode cX0_takeNear 1 = .ok (.invokestatic 52, 3) := by decide +kernel
theorem dX0_takeNear_4 : decode cX0_takeNear 4 = .ok (.ifCond .eq 5, 3) := by decide +kernel
theorem dX0_takeNear_7 : decode cX0_takeNear 7 = .ok (.iconst (-1), 1) := by decide +kernel
theorem dX0_takeNear_8 : decode cX0_takeNear 8 = .ok (.ireturn, 1) := by decide +kernel
theorem dX0_takeNear_9 : decode cX0_takeNear 9 = .ok (.iload_n 2, 1) := by decide +kernel
theorem dX0_takeNear_10 : decode cX0_takeNear 10 = .ok (.invokestatic 44, 3) := by decide +kernel
theorem dX0_takeNear_13 : decode cX0_takeNear 13 = .ok (.ifCond .eq 6, 3) := by decide +kernel
theorem dX0_takeNear_16 : decode cX0_takeNear 16 = .ok (.bipush (-2), 2) := by decide +kernel
theorem dX0_takeNear_18 : decode cX0_takeNear 18 = .ok (.ireturn, 1) := by decide +kernel
theorem dX0_takeNear_19 : decode cX0_takeNear 19 = .ok (.aload_n 0, 1) := by decide +kernel
theorem dX0_takeNear_20 : decode cX0_takeNear 20 = .ok (.iload_n 1, 1) := by decide +kernel
theorem dX0_takeNear_21 : decode cX0_takeNear 21 = .ok (.invokevirtual 26, 3) := by decide +kernel
theorem dX0_takeNear_24 : decode cX0_takeNear 24 = .ok (.istore_n 3, 1) := by decide +kernel
theorem dX0_takeNear_25 : decode cX0_takeNear 25 = .ok (.iload_n 3, 1) := by decide +kernel
theorem dX0_takeNear_26 : decode cX0_takeNear 26 = .ok (.iconst 1, 1) := by decide +kernel
theorem dX0_takeNear_27 : decode cX0_takeNear 27 = .ok (.isub, 1) := by decide +kernel
theorem dX0_takeNear_28 : decode cX0_takeNear 28 = .ok (.istore 4, 2) := by decide +kernel
theorem dX0_takeNear_30 : decode cX0_takeNear 30 = .ok (.iload_n 3, 1) := by decide +kernel
theorem dX0_takeNear_31 : decode cX0_takeNear 31 = .ok (.aload_n 0, 1) := by decide +kernel
theorem dX0_takeNear_32 : decode cX0_takeNear 32 = .ok (.getfield 22, 3) := by decide +kernel
theorem dX0_takeNear_35 : decode cX0_takeNear 35 = .ok (.if_icmp .ge 19, 3) := by decide +kernel
theorem dX0_takeNear_38 : decode cX0_takeNear 38 = .ok (.aload_n 0, 1) := by decide +kernel
theorem dX0_takeNear_39 : decode cX0_takeNear 39 = .ok (.getfield 13, 3) := by decide +kernel
theorem dX0_takeNear_42 : decode cX0_takeNear 42 = .ok (.iload_n 3, 1) := by decide +kernel
theorem dX0_takeNear_43 : decode cX0_takeNear 43 = .ok (.iaload, 1) := by decide +kernel
theorem dX0_takeNear_44 : decode cX0_takeNear 44 = .ok (.iload_n 2, 1) := by decide +kernel
theorem dX0_takeNear_45 : decode cX0_takeNear 45 = .ok (.if_icmp .ge 9, 3) := by decide +kernel
theorem dX0_takeNear_48 : decode cX0_takeNear 48 = .ok (.iinc 3 1, 3) := by decide +kernel
theorem dX0_takeNear_51 : decode cX0_takeNear 51 = .ok (.goto (-21), 3) := by decide +kernel
theorem dX0_takeNear_54 : decode cX0_takeNear 54 = .ok (.iload 4, 2) := by decide +kernel
theorem dX0_takeNear_56 : decode cX0_takeNear 56 = .ok (.ifCond .lt 20, 3) := by decide +kernel
theorem dX0_takeNear_59 : decode cX0_takeNear 59 = .ok (.aload_n 0, 1) := by decide +kernel
theorem dX0_takeNear_60 : decode cX0_takeNear 60 = .ok (.getfield 13, 3) := by decide +kernel
theorem dX0_takeNear_63 : decode cX0_takeNear 63 = .ok (.iload 4, 2) := by decide +kernel
theorem dX0_takeNear_65 : decode cX0_takeNear 65 = .ok (.iaload, 1) := by decide +kernel
theorem dX0_takeNear_66 : decode cX0_takeNear 66 = .ok (.iload_n 2, 1) := by decide +kernel
theorem dX0_takeNear_67 : decode cX0_takeNear 67 = .ok (.if_icmp .ge 9, 3) := by decide +kernel
theorem dX0_takeNear_70 : decode cX0_takeNear 70 = .ok (.iinc 4 (-1), 3) := by decide +kernel
theorem dX0_takeNear_73 : decode cX0_takeNear 73 = .ok (.goto (-19), 3) := by decide +kernel
theorem dX0_takeNear_76 : decode cX0_takeNear 76 = .ok (.iload 4, 2) := by decide +kernel
theorem dX0_takeNear_78 : decode cX0_takeNear 78 = .ok (.ifCond .ge 14, 3) := by decide +kernel
theorem dX0_takeNear_81 : decode cX0_takeNear 81 = .ok (.iload_n 3, 1) := by decide +kernel
theorem dX0_takeNear_82 : decode cX0_takeNear 82 = .ok (.aload_n 0, 1) := by decide +kernel
theorem dX0_takeNear_83 : decode cX0_takeNear 83 = .ok (.getfield 22, 3) := by decide +kernel
theorem dX0_takeNear_86 : decode cX0_takeNear 86 = .ok (.if_icmp .ne 6, 3) := by decide +kernel
theorem dX0_takeNear_89 : decode cX0_takeNear 89 = .ok (.bipush (-3), 2) := by decide +kernel
theorem dX0_takeNear_91 : decode cX0_takeNear 91 = .ok (.ireturn, 1) := by decide +kernel
theorem dX0_takeNear_92 : decode cX0_takeNear 92 = .ok (.iload_n 3, 1) := by decide +kernel
theorem dX0_takeNear_93 : decode cX0_takeNear 93 = .ok (.aload_n 0, 1) := by decide +kernel
theorem dX0_takeNear_94 : decode cX0_takeNear 94 = .ok (.getfield 22, 3) := by decide +kernel
theorem dX0_takeNear_97 : decode cX0_takeNear 97 = .ok (.if_icmp .eq 28, 3) := by decide +kernel
theorem dX0_takeNear_100 : decode cX0_takeNear 100 = .ok (.iload 4, 2) := by decide +kernel
theorem dX0_takeNear_102 : decode cX0_takeNear 102 = .ok (.ifCond .lt 27, 3) := by decide +kernel
theorem dX0_takeNear_105 : decode cX0_takeNear 105 = .ok (.iload_n 1, 1) := by decide +kernel
theorem dX0_takeNear_106 : decode cX0_takeNear 106 = .ok (.aload_n 0, 1) := by decide +kernel
theorem dX0_takeNear_107 : decode cX0_takeNear 107 = .ok (.getfield 7, 3) := by decide +kernel
theorem dX0_takeNear_110 : decode cX0_takeNear 110 = .ok (.iload 4, 2) := by decide +kernel
theorem dX0_takeNear_112 : decode cX0_takeNear 112 = .ok (.iaload, 1) := by decide +kernel
theorem dX0_takeNear_113 : decode cX0_takeNear 113 = .ok (.isub, 1) := by decide +kernel
theorem dX0_takeNear_114 : decode cX0_takeNear 114 = .ok (.aload_n 0, 1) := by decide +kernel
theorem dX0_takeNear_115 : decode cX0_takeNear 115 = .ok (.getfield 7, 3) := by decide +kernel
theorem dX0_takeNear_118 : decode cX0_takeNear 118 = .ok (.iload_n 3, 1) := by decide +kernel
theorem dX0_takeNear_119 : decode cX0_takeNear 119 = .ok (.iaload, 1) := by decide +kernel
theorem dX0_takeNear_120 : decode cX0_takeNear 120 = .ok (.iload_n 1, 1) := by decide +kernel
theorem dX0_takeNear_121 : decode cX0_takeNear 121 = .ok (.isub, 1) := by decide +kernel
theorem dX0_takeNear_122 : decode cX0_takeNear 122 = .ok (.if_icmp .gt 7, 3) := by decide +kernel
theorem dX0_takeNear_125 : decode cX0_takeNear 125 = .ok (.iconst 1, 1) := by decide +kernel
theorem dX0_takeNear_126 : decode cX0_takeNear 126 = .ok (.goto 4, 3) := by decide +kernel
theorem dX0_takeNear_129 : decode cX0_takeNear 129 = .ok (.iconst 0, 1) := by decide +kernel
theorem dX0_takeNear_130 : decode cX0_takeNear 130 = .ok (.istore 5, 2) := by decide +kernel
theorem dX0_takeNear_132 : decode cX0_takeNear 132 = .ok (.iload 5, 2) := by decide +kernel
theorem dX0_takeNear_134 : decode cX0_takeNear 134 = .ok (.ifCond .eq 8, 3) := by decide +kernel
theorem dX0_takeNear_137 : decode cX0_takeNear 137 = .ok (.iload 4, 2) := by decide +kernel
theorem dX0_takeNear_139 : decode cX0_takeNear 139 = .ok (.goto 4, 3) := by decide +kernel
theorem dX0_takeNear_142 : decode cX0_takeNear 142 = .ok (.iload_n 3, 1) := by decide +kernel
theorem dX0_takeNear_143 : decode cX0_takeNear 143 = .ok (.istore 6, 2) := by decide +kernel
theorem dX0_takeNear_145 : decode cX0_takeNear 145 = .ok (.aload_n 0, 1) := by decide +kernel
theorem dX0_takeNear_146 : decode cX0_takeNear 146 = .ok (.getfield 7, 3) := by decide +kernel
theorem dX0_takeNear_149 : decode cX0_takeNear 149 = .ok (.iload 6, 2) := by decide +kernel
theorem dX0_takeNear_151 : decode cX0_takeNear 151 = .ok (.iaload, 1) := by decide +kernel
theorem dX0_takeNear_152 : decode cX0_takeNear 152 = .ok (.istore 7, 2) := by decide +kernel
theorem dX0_takeNear_154 : decode cX0_takeNear 154 = .ok (.aload_n 0, 1) := by decide +kernel
theorem dX0_takeNear_155 : decode cX0_takeNear 155 = .ok (.iload 6, 2) := by decide +kernel
theorem dX0_takeNear_157 : decode cX0_takeNear 157 = .ok (.iload 7, 2) := by decide +kernel
theorem dX0_takeNear_159 : decode cX0_takeNear 159 = .ok (.iload_n 2, 1) := by decide +kernel
theorem dX0_takeNear_160 : decode cX0_takeNear 160 = .ok (.invokevirtual 48, 3) := by decide +kernel
theorem dX0_takeNear_163 : decode cX0_takeNear 163 = .ok (.iload 7, 2) := by decide +kernel
theorem dX0_takeNear_165 : decode cX0_takeNear 165 = .ok (.ireturn, 1) := by decide +kernel
abbrev cX0_badBlock : ByteArray := prog_1_method_2_code
def yX0_badBlock : MethodName := ⟨RX0, "badBlock", "(I)Z"⟩
theorem dX0_badBlock_0 : decode cX0_badBlock 0 = .ok (.iload_n 0, 1) := by decide +kernel
theorem dX0_badBlock_1 : decode cX0_badBlock 1 = .ok (.ifCond .lt 10, 3) := by decide +kernel
theorem dX0_badBlock_4 : decode cX0_badBlock 4 = .ok (.iload_n 0, 1) := by decide +kernel
theorem dX0_badBlock_5 : decode cX0_badBlock 5 = .ok (.sipush 256, 3) := by decide +kernel
theorem dX0_badBlock_8 : decode cX0_badBlock 8 = .ok (.if_icmp .lt 7, 3) := by decide +kernel
theorem dX0_badBlock_11 : decode cX0_badBlock 11 = .ok (.iconst 1, 1) := by decide +kernel
theorem dX0_badBlock_12 : decode cX0_badBlock 12 = .ok (.goto 4, 3) := by decide +kernel
theorem dX0_badBlock_15 : decode cX0_badBlock 15 = .ok (.iconst 0, 1) := by decide +kernel
theorem dX0_badBlock_16 : decode cX0_badBlock 16 = .ok (.ireturn, 1) := by decide +kernel
abbrev cX0_takeAt : ByteArray := prog_1_method_13_code
def yX0_takeAt : MethodName := ⟨RX0, "takeAt", "(II)I"⟩
theorem dX0_takeAt_0 : decode cX0_takeAt 0 = .ok (.iload_n 1, 1) := by decide +kernel
theorem dX0_takeAt_1 : decode cX0_takeAt 1 = .ok (.invokestatic 52, 3) := by decide +kernel
theorem dX0_takeAt_4 : decode cX0_takeAt 4 = .ok (.ifCond .eq 5, 3) := by decide +kernel
theorem dX0_takeAt_7 : decode cX0_takeAt 7 = .ok (.iconst (-1), 1) := by decide +kernel
theorem dX0_takeAt_8 : decode cX0_takeAt 8 = .ok (.ireturn, 1) := by decide +kernel
theorem dX0_takeAt_9 : decode cX0_takeAt 9 = .ok (.iload_n 1, 1) := by decide +kernel
theorem dX0_takeAt_10 : decode cX0_takeAt 10 = .ok (.iload_n 2, 1) := by decide +kernel
theorem dX0_takeAt_11 : decode cX0_takeAt 11 = .ok (.invokestatic 55, 3) := by decide +kernel
theorem dX0_takeAt_14 : decode cX0_takeAt 14 = .ok (.ifCond .eq 6, 3) := by decide +kernel
theorem dX0_takeAt_17 : decode cX0_takeAt 17 = .ok (.bipush (-2), 2) := by decide +kernel
theorem dX0_takeAt_19 : decode cX0_takeAt 19 = .ok (.ireturn, 1) := by decide +kernel
theorem dX0_takeAt_20 : decode cX0_takeAt 20 = .ok (.aload_n 0, 1) := by decide +kernel
theorem dX0_takeAt_21 : decode cX0_takeAt 21 = .ok (.iload_n 1, 1) := by decide +kernel
theorem dX0_takeAt_22 : decode cX0_takeAt 22 = .ok (.invokevirtual 59, 3) := by decide +kernel
theorem dX0_takeAt_25 : decode cX0_takeAt 25 = .ok (.istore_n 3, 1) := by decide +kernel
theorem dX0_takeAt_26 : decode cX0_takeAt 26 = .ok (.iload_n 3, 1) := by decide +kernel
theorem dX0_takeAt_27 : decode cX0_takeAt 27 = .ok (.ifCond .lt 22, 3) := by decide +kernel
theorem dX0_takeAt_30 : decode cX0_takeAt 30 = .ok (.iload_n 1, 1) := by decide +kernel
theorem dX0_takeAt_31 : decode cX0_takeAt 31 = .ok (.iload_n 2, 1) := by decide +kernel
theorem dX0_takeAt_32 : decode cX0_takeAt 32 = .ok (.iadd, 1) := by decide +kernel
theorem dX0_takeAt_33 : decode cX0_takeAt 33 = .ok (.aload_n 0, 1) := by decide +kernel
theorem dX0_takeAt_34 : decode cX0_takeAt 34 = .ok (.getfield 7, 3) := by decide +kernel
theorem dX0_takeAt_37 : decode cX0_takeAt 37 = .ok (.iload_n 3, 1) := by decide +kernel
theorem dX0_takeAt_38 : decode cX0_takeAt 38 = .ok (.iaload, 1) := by decide +kernel
theorem dX0_takeAt_39 : decode cX0_takeAt 39 = .ok (.aload_n 0, 1) := by decide +kernel
theorem dX0_takeAt_40 : decode cX0_takeAt 40 = .ok (.getfield 13, 3) := by decide +kernel
theorem dX0_takeAt_43 : decode cX0_takeAt 43 = .ok (.iload_n 3, 1) := by decide +kernel
theorem dX0_takeAt_44 : decode cX0_takeAt 44 = .ok (.iaload, 1) := by decide +kernel
theorem dX0_takeAt_45 : decode cX0_takeAt 45 = .ok (.iadd, 1) := by decide +kernel
theorem dX0_takeAt_46 : decode cX0_takeAt 46 = .ok (.if_icmp .le 6, 3) := by decide +kernel
theorem dX0_takeAt_49 : decode cX0_takeAt 49 = .ok (.bipush (-4), 2) := by decide +kernel
theorem dX0_takeAt_51 : decode cX0_takeAt 51 = .ok (.ireturn, 1) := by decide +kernel
theorem dX0_takeAt_52 : decode cX0_takeAt 52 = .ok (.aload_n 0, 1) := by decide +kernel
theorem dX0_takeAt_53 : decode cX0_takeAt 53 = .ok (.iload_n 3, 1) := by decide +kernel
theorem dX0_takeAt_54 : decode cX0_takeAt 54 = .ok (.iload_n 1, 1) := by decide +kernel
theorem dX0_takeAt_55 : decode cX0_takeAt 55 = .ok (.iload_n 2, 1) := by decide +kernel
theorem dX0_takeAt_56 : decode cX0_takeAt 56 = .ok (.invokevirtual 48, 3) := by decide +kernel
theorem dX0_takeAt_59 : decode cX0_takeAt 59 = .ok (.aload_n 0, 1) := by decide +kernel
theorem dX0_takeAt_60 : decode cX0_takeAt 60 = .ok (.getfield 22, 3) := by decide +kernel
theorem dX0_takeAt_63 : decode cX0_takeAt 63 = .ok (.ireturn, 1) := by decide +kernel
abbrev cX0_beyond : ByteArray := prog_1_method_12_code
def yX0_beyond : MethodName := ⟨RX0, "beyond", "(II)Z"⟩
theorem dX0_beyond_0 : decode cX0_beyond 0 = .ok (.iload_n 1, 1) := by decide +kernel
theorem dX0_beyond_1 : decode cX0_beyond 1 = .ok (.invokestatic 44, 3) := by decide +kernel
theorem dX0_beyond_4 : decode cX0_beyond 4 = .ok (.ifCond .ne 12, 3) := by decide +kernel
theorem dX0_beyond_7 : decode cX0_beyond 7 = .ok (.iload_n 0, 1) := by decide +kernel
theorem dX0_beyond_8 : decode cX0_beyond 8 = .ok (.iload_n 1, 1) := by decide +kernel
theorem dX0_beyond_9 : decode cX0_beyond 9 = .ok (.iadd, 1) := by decide +kernel
theorem dX0_beyond_10 : decode cX0_beyond 10 = .ok (.sipush 256, 3) := by decide +kernel
theorem dX0_beyond_13 : decode cX0_beyond 13 = .ok (.if_icmp .le 7, 3) := by decide +kernel
theorem dX0_beyond_16 : decode cX0_beyond 16 = .ok (.iconst 1, 1) := by decide +kernel
theorem dX0_beyond_17 : decode cX0_beyond 17 = .ok (.goto 4, 3) := by decide +kernel
theorem dX0_beyond_20 : decode cX0_beyond 20 = .ok (.iconst 0, 1) := by decide +kernel
theorem dX0_beyond_21 : decode cX0_beyond 21 = .ok (.ireturn, 1) := by decide +kernel
abbrev cX0_extentOf : ByteArray := prog_1_method_8_code
def yX0_extentOf : MethodName := ⟨RX0, "extentOf", "(I)I"⟩
theorem dX0_extentOf_0 : decode cX0_extentOf 0 = .ok (.aload_n 0, 1) := by decide +kernel
theorem dX0_extentOf_1 : decode cX0_extentOf 1 = .ok (.iload_n 1, 1) := by decide +kernel
theorem dX0_extentOf_2 : decode cX0_extentOf 2 = .ok (.iconst 1, 1) := by decide +kernel
theorem dX0_extentOf_3 : decode cX0_extentOf 3 = .ok (.iadd, 1) := by decide +kernel
theorem dX0_extentOf_4 : decode cX0_extentOf 4 = .ok (.invokevirtual 26, 3) := by decide +kernel
theorem dX0_extentOf_7 : decode cX0_extentOf 7 = .ok (.iconst 1, 1) := by decide +kernel
theorem dX0_extentOf_8 : decode cX0_extentOf 8 = .ok (.isub, 1) := by decide +kernel
theorem dX0_extentOf_9 : decode cX0_extentOf 9 = .ok (.istore_n 2, 1) := by decide +kernel
theorem dX0_extentOf_10 : decode cX0_extentOf 10 = .ok (.iload_n 2, 1) := by decide +kernel
theorem dX0_extentOf_11 : decode cX0_extentOf 11 = .ok (.ifCond .lt 24, 3) := by decide +kernel
theorem dX0_extentOf_14 : decode cX0_extentOf 14 = .ok (.iload_n 1, 1) := by decide +kernel
theorem dX0_extentOf_15 : decode cX0_extentOf 15 = .ok (.aload_n 0, 1) := by decide +kernel
theorem dX0_extentOf_16 : decode cX0_extentOf 16 = .ok (.getfield 7, 3) := by decide +kernel
theorem dX0_extentOf_19 : decode cX0_extentOf 19 = .ok (.iload_n 2, 1) := by decide +kernel
theorem dX0_extentOf_20 : decode cX0_extentOf 20 = .ok (.iaload, 1) := by decide +kernel
theorem dX0_extentOf_21 : decode cX0_extentOf 21 = .ok (.aload_n 0, 1) := by decide +kernel
theorem dX0_extentOf_22 : decode cX0_extentOf 22 = .ok (.getfield 13, 3) := by decide +kernel
theorem dX0_extentOf_25 : decode cX0_extentOf 25 = .ok (.iload_n 2, 1) := by decide +kernel
theorem dX0_extentOf_26 : decode cX0_extentOf 26 = .ok (.iaload, 1) := by decide +kernel
theorem dX0_extentOf_27 : decode cX0_extentOf 27 = .ok (.iadd, 1) := by decide +kernel
theorem dX0_extentOf_28 : decode cX0_extentOf 28 = .ok (.if_icmp .ge 7, 3) := by decide +kernel
theorem dX0_extentOf_31 : decode cX0_extentOf 31 = .ok (.iload_n 2, 1) := by decide +kernel
theorem dX0_extentOf_32 : decode cX0_extentOf 32 = .ok (.goto 4, 3) := by decide +kernel
theorem dX0_extentOf_35 : decode cX0_extentOf 35 = .ok (.iconst (-1), 1) := by decide +kernel
theorem dX0_extentOf_36 : decode cX0_extentOf 36 = .ok (.ireturn, 1) := by decide +kernel
abbrev cX0_give : ByteArray := prog_1_method_14_code
def yX0_give : MethodName := ⟨RX0, "give", "(II)I"⟩
theorem dX0_give_0 : decode cX0_give 0 = .ok (.iload_n 1, 1) := by decide +kernel
theorem dX0_give_1 : decode cX0_give 1 = .ok (.invokestatic 52, 3) := by decide +kernel
theorem dX0_give_4 : decode cX0_give 4 = .ok (.ifCond .eq 5, 3) := by decide +kernel
theorem dX0_give_7 : decode cX0_give 7 = .ok (.iconst (-1), 1) := by decide +kernel
theorem dX0_give_8 : decode cX0_give 8 = .ok (.ireturn, 1) := by decide +kernel
theorem dX0_give_9 : decode cX0_give 9 = .ok (.iload_n 1, 1) := by decide +kernel
theorem dX0_give_10 : decode cX0_give 10 = .ok (.iload_n 2, 1) := by decide +kernel
theorem dX0_give_11 : decode cX0_give 11 = .ok (.invokestatic 55, 3) := by decide +kernel
theorem dX0_give_14 : decode cX0_give 14 = .ok (.ifCond .eq 6, 3) := by decide +kernel
theorem dX0_give_17 : decode cX0_give 17 = .ok (.bipush (-2), 2) := by decide +kernel
theorem dX0_give_19 : decode cX0_give 19 = .ok (.ireturn, 1) := by decide +kernel
theorem dX0_give_20 : decode cX0_give 20 = .ok (.aload_n 0, 1) := by decide +kernel
theorem dX0_give_21 : decode cX0_give 21 = .ok (.iload_n 1, 1) := by decide +kernel
theorem dX0_give_22 : decode cX0_give 22 = .ok (.invokevirtual 26, 3) := by decide +kernel
theorem dX0_give_25 : decode cX0_give 25 = .ok (.istore_n 3, 1) := by decide +kernel
theorem dX0_give_26 : decode cX0_give 26 = .ok (.iload_n 3, 1) := by decide +kernel
theorem dX0_give_27 : decode cX0_give 27 = .ok (.iconst 1, 1) := by decide +kernel
theorem dX0_give_28 : decode cX0_give 28 = .ok (.isub, 1) := by decide +kernel
theorem dX0_give_29 : decode cX0_give 29 = .ok (.istore 4, 2) := by decide +kernel
theorem dX0_give_31 : decode cX0_give 31 = .ok (.iload_n 3, 1) := by decide +kernel
theorem dX0_give_32 : decode cX0_give 32 = .ok (.aload_n 0, 1) := by decide +kernel
theorem dX0_give_33 : decode cX0_give 33 = .ok (.getfield 22, 3) := by decide +kernel
theorem dX0_give_36 : decode cX0_give 36 = .ok (.if_icmp .ge 18, 3) := by decide +kernel
theorem dX0_give_39 : decode cX0_give 39 = .ok (.aload_n 0, 1) := by decide +kernel
theorem dX0_give_40 : decode cX0_give 40 = .ok (.getfield 7, 3) := by decide +kernel
theorem dX0_give_43 : decode cX0_give 43 = .ok (.iload_n 3, 1) := by decide +kernel
theorem dX0_give_44 : decode cX0_give 44 = .ok (.iaload, 1) := by decide +kernel
theorem dX0_give_45 : decode cX0_give 45 = .ok (.iload_n 1, 1) := by decide +kernel
theorem dX0_give_46 : decode cX0_give 46 = .ok (.iload_n 2, 1) := by decide +kernel
theorem dX0_give_47 : decode cX0_give 47 = .ok (.iadd, 1) := by decide +kernel
theorem dX0_give_48 : decode cX0_give 48 = .ok (.if_icmp .ge 6, 3) := by decide +kernel
theorem dX0_give_51 : decode cX0_give 51 = .ok (.bipush (-5), 2) := by decide +kernel
theorem dX0_give_53 : decode cX0_give 53 = .ok (.ireturn, 1) := by decide +kernel
theorem dX0_give_54 : decode cX0_give 54 = .ok (.iload 4, 2) := by decide +kernel
theorem dX0_give_56 : decode cX0_give 56 = .ok (.ifCond .lt 25, 3) := by decide +kernel
theorem dX0_give_59 : decode cX0_give 59 = .ok (.aload_n 0, 1) := by decide +kernel
theorem dX0_give_60 : decode cX0_give 60 = .ok (.getfield 7, 3) := by decide +kernel
theorem dX0_give_63 : decode cX0_give 63 = .ok (.iload 4, 2) := by decide +kernel
theorem dX0_give_65 : decode cX0_give 65 = .ok (.iaload, 1) := by decide +kernel
theorem dX0_give_66 : decode cX0_give 66 = .ok (.aload_n 0, 1) := by decide +kernel
theorem dX0_give_67 : decode cX0_give 67 = .ok (.getfield 13, 3) := by decide +kernel
theorem dX0_give_70 : decode cX0_give 70 = .ok (.iload 4, 2) := by decide +kernel
theorem dX0_give_72 : decode cX0_give 72 = .ok (.iaload, 1) := by decide +kernel
theorem dX0_give_73 : decode cX0_give 73 = .ok (.iadd, 1) := by decide +kernel
theorem dX0_give_74 : decode cX0_give 74 = .ok (.iload_n 1, 1) := by decide +kernel
theorem dX0_give_75 : decode cX0_give 75 = .ok (.if_icmp .le 6, 3) := by decide +kernel
theorem dX0_give_78 : decode cX0_give 78 = .ok (.bipush (-5), 2) := by decide +kernel
theorem dX0_give_80 : decode cX0_give 80 = .ok (.ireturn, 1) := by decide +kernel
theorem dX0_give_81 : decode cX0_give 81 = .ok (.iload_n 1, 1) := by decide +kernel
theorem dX0_give_82 : decode cX0_give 82 = .ok (.istore 5, 2) := by decide +kernel
theorem dX0_give_84 : decode cX0_give 84 = .ok (.iload_n 1, 1) := by decide +kernel
theorem dX0_give_85 : decode cX0_give 85 = .ok (.iload_n 2, 1) := by decide +kernel
theorem dX0_give_86 : decode cX0_give 86 = .ok (.iadd, 1) := by decide +kernel
theorem dX0_give_87 : decode cX0_give 87 = .ok (.istore 6, 2) := by decide +kernel
theorem dX0_give_89 : decode cX0_give 89 = .ok (.iload_n 3, 1) := by decide +kernel
theorem dX0_give_90 : decode cX0_give 90 = .ok (.aload_n 0, 1) := by decide +kernel
theorem dX0_give_91 : decode cX0_give 91 = .ok (.getfield 22, 3) := by decide +kernel
theorem dX0_give_94 : decode cX0_give 94 = .ok (.if_icmp .ge 30, 3) := by decide +kernel
theorem dX0_give_97 : decode cX0_give 97 = .ok (.aload_n 0, 1) := by decide +kernel
theorem dX0_give_98 : decode cX0_give 98 = .ok (.getfield 7, 3) := by decide +kernel
theorem dX0_give_101 : decode cX0_give 101 = .ok (.iload_n 3, 1) := by decide +kernel
theorem dX0_give_102 : decode cX0_give 102 = .ok (.iaload, 1) := by decide +kernel
theorem dX0_give_103 : decode cX0_give 103 = .ok (.iload 6, 2) := by decide +kernel
theorem dX0_give_105 : decode cX0_give 105 = .ok (.if_icmp .ne 19, 3) := by decide +kernel
theorem dX0_give_108 : decode cX0_give 108 = .ok (.iload 6, 2) := by decide +kernel
theorem dX0_give_110 : decode cX0_give 110 = .ok (.aload_n 0, 1) := by decide +kernel
theorem dX0_give_111 : decode cX0_give 111 = .ok (.getfield 13, 3) := by decide +kernel
theorem dX0_give_114 : decode cX0_give 114 = .ok (.iload_n 3, 1) := by decide +kernel
theorem dX0_give_115 : decode cX0_give 115 = .ok (.iaload, 1) := by decide +kernel
theorem dX0_give_116 : decode cX0_give 116 = .ok (.iadd, 1) := by decide +kernel
theorem dX0_give_117 : decode cX0_give 117 = .ok (.istore 6, 2) := by decide +kernel
theorem dX0_give_119 : decode cX0_give 119 = .ok (.aload_n 0, 1) := by decide +kernel
theorem dX0_give_120 : decode cX0_give 120 = .ok (.iload_n 3, 1) := by decide +kernel
theorem dX0_give_121 : decode cX0_give 121 = .ok (.invokevirtual 36, 3) := by decide +kernel
theorem dX0_give_124 : decode cX0_give 124 = .ok (.iload 4, 2) := by decide +kernel
theorem dX0_give_126 : decode cX0_give 126 = .ok (.ifCond .lt 37, 3) := by decide +kernel
theorem dX0_give_129 : decode cX0_give 129 = .ok (.aload_n 0, 1) := by decide +kernel
theorem dX0_give_130 : decode cX0_give 130 = .ok (.getfield 7, 3) := by decide +kernel
theorem dX0_give_133 : decode cX0_give 133 = .ok (.iload 4, 2) := by decide +kernel
theorem dX0_give_135 : decode cX0_give 135 = .ok (.iaload, 1) := by decide +kernel
theorem dX0_give_136 : decode cX0_give 136 = .ok (.aload_n 0, 1) := by decide +kernel
theorem dX0_give_137 : decode cX0_give 137 = .ok (.getfield 13, 3) := by decide +kernel
theorem dX0_give_140 : decode cX0_give 140 = .ok (.iload 4, 2) := by decide +kernel
theorem dX0_give_142 : decode cX0_give 142 = .ok (.iaload, 1) := by decide +kernel
theorem dX0_give_143 : decode cX0_give 143 = .ok (.iadd, 1) := by decide +kernel
theorem dX0_give_144 : decode cX0_give 144 = .ok (.iload_n 1, 1) := by decide +kernel
theorem dX0_give_145 : decode cX0_give 145 = .ok (.if_icmp .ne 18, 3) := by decide +kernel
theorem dX0_give_148 : decode cX0_give 148 = .ok (.aload_n 0, 1) := by decide +kernel
theorem dX0_give_149 : decode cX0_give 149 = .ok (.getfield 7, 3) := by decide +kernel
theorem dX0_give_152 : decode cX0_give 152 = .ok (.iload 4, 2) := by decide +kernel
theorem dX0_give_154 : decode cX0_give 154 = .ok (.iaload, 1) := by decide +kernel
theorem dX0_give_155 : decode cX0_give 155 = .ok (.istore 5, 2) := by decide +kernel
theorem dX0_give_157 : decode cX0_give 157 = .ok (.aload_n 0, 1) := by decide +kernel
theorem dX0_give_158 : decode cX0_give 158 = .ok (.iload 4, 2) := by decide +kernel
theorem dX0_give_160 : decode cX0_give 160 = .ok (.invokevirtual 36, 3) := by decide +kernel
theorem dX0_give_163 : decode cX0_give 163 = .ok (.aload_n 0, 1) := by decide +kernel
theorem dX0_give_164 : decode cX0_give 164 = .ok (.iload 5, 2) := by decide +kernel
theorem dX0_give_166 : decode cX0_give 166 = .ok (.iload 6, 2) := by decide +kernel
theorem dX0_give_168 : decode cX0_give 168 = .ok (.iload 5, 2) := by decide +kernel
theorem dX0_give_170 : decode cX0_give 170 = .ok (.isub, 1) := by decide +kernel
theorem dX0_give_171 : decode cX0_give 171 = .ok (.invokevirtual 40, 3) := by decide +kernel
theorem dX0_give_174 : decode cX0_give 174 = .ok (.iload 6, 2) := by decide +kernel
theorem dX0_give_176 : decode cX0_give 176 = .ok (.iload 5, 2) := by decide +kernel
theorem dX0_give_178 : decode cX0_give 178 = .ok (.isub, 1) := by decide +kernel
theorem dX0_give_179 : decode cX0_give 179 = .ok (.ireturn, 1) := by decide +kernel
abbrev cX0_takePieces : ByteArray := prog_1_method_16_code
def yX0_takePieces : MethodName := ⟨RX0, "takePieces", "(I)I"⟩
theorem dX0_takePieces_0 : decode cX0_takePieces 0 = .ok (.iload_n 1, 1) := by decide +kernel
theorem dX0_takePieces_1 : decode cX0_takePieces 1 = .ok (.invokestatic 44, 3) := by decide +kernel
theorem dX0_takePieces_4 : decode cX0_takePieces 4 = .ok (.ifCond .eq 6, 3) := by decide +kernel
theorem dX0_takePieces_7 : decode cX0_takePieces 7 = .ok (.bipush (-2), 2) := by decide +kernel
theorem dX0_takePieces_9 : decode cX0_takePieces 9 = .ok (.ireturn, 1) := by decide +kernel
theorem dX0_takePieces_10 : decode cX0_takePieces 10 = .ok (.iconst 0, 1) := by decide +kernel
theorem dX0_takePieces_11 : decode cX0_takePieces 11 = .ok (.istore_n 2, 1) := by decide +kernel
theorem dX0_takePieces_12 : decode cX0_takePieces 12 = .ok (.iload_n 2, 1) := by decide +kernel
theorem dX0_takePieces_13 : decode cX0_takePieces 13 = .ok (.iload_n 1, 1) := by decide +kernel
theorem dX0_takePieces_14 : decode cX0_takePieces 14 = .ok (.if_icmp .ge 62, 3) := by decide +kernel
theorem dX0_takePieces_17 : decode cX0_takePieces 17 = .ok (.aload_n 0, 1) := by decide +kernel
theorem dX0_takePieces_18 : decode cX0_takePieces 18 = .ok (.getfield 22, 3) := by decide +kernel
theorem dX0_takePieces_21 : decode cX0_takePieces 21 = .ok (.ifCond .le 55, 3) := by decide +kernel
theorem dX0_takePieces_24 : decode cX0_takePieces 24 = .ok (.aload_n 0, 1) := by decide +kernel
theorem dX0_takePieces_25 : decode cX0_takePieces 25 = .ok (.invokevirtual 62, 3) := by decide +kernel
theorem dX0_takePieces_28 : decode cX0_takePieces 28 = .ok (.istore_n 3, 1) := by decide +kernel
theorem dX0_takePieces_29 : decode cX0_takePieces 29 = .ok (.aload_n 0, 1) := by decide +kernel
theorem dX0_takePieces_30 : decode cX0_takePieces 30 = .ok (.getfield 13, 3) := by decide +kernel
theorem dX0_takePieces_33 : decode cX0_takePieces 33 = .ok (.iload_n 3, 1) := by decide +kernel
theorem dX0_takePieces_34 : decode cX0_takePieces 34 = .ok (.iaload, 1) := by decide +kernel
theorem dX0_takePieces_35 : decode cX0_takePieces 35 = .ok (.iload_n 1, 1) := by decide +kernel
theorem dX0_takePieces_36 : decode cX0_takePieces 36 = .ok (.iload_n 2, 1) := by decide +kernel
theorem dX0_takePieces_37 : decode cX0_takePieces 37 = .ok (.isub, 1) := by decide +kernel
theorem dX0_takePieces_38 : decode cX0_takePieces 38 = .ok (.if_icmp .ge 12, 3) := by decide +kernel
theorem dX0_takePieces_41 : decode cX0_takePieces 41 = .ok (.aload_n 0, 1) := by decide +kernel
theorem dX0_takePieces_42 : decode cX0_takePieces 42 = .ok (.getfield 13, 3) := by decide +kernel
theorem dX0_takePieces_45 : decode cX0_takePieces 45 = .ok (.iload_n 3, 1) := by decide +kernel
theorem dX0_takePieces_46 : decode cX0_takePieces 46 = .ok (.iaload, 1) := by decide +kernel
theorem dX0_takePieces_47 : decode cX0_takePieces 47 = .ok (.goto 6, 3) := by decide +kernel
theorem dX0_takePieces_50 : decode cX0_takePieces 50 = .ok (.iload_n 1, 1) := by decide +kernel
theorem dX0_takePieces_51 : decode cX0_takePieces 51 = .ok (.iload_n 2, 1) := by decide +kernel
theorem dX0_takePieces_52 : decode cX0_takePieces 52 = .ok (.isub, 1) := by decide +kernel
theorem dX0_takePieces_53 : decode cX0_takePieces 53 = .ok (.istore 4, 2) := by decide +kernel
theorem dX0_takePieces_55 : decode cX0_takePieces 55 = .ok (.aload_n 0, 1) := by decide +kernel
theorem dX0_takePieces_56 : decode cX0_takePieces 56 = .ok (.iload_n 3, 1) := by decide +kernel
theorem dX0_takePieces_57 : decode cX0_takePieces 57 = .ok (.aload_n 0, 1) := by decide +kernel
theorem dX0_takePieces_58 : decode cX0_takePieces 58 = .ok (.getfield 7, 3) := by decide +kernel
theorem dX0_takePieces_61 : decode cX0_takePieces 61 = .ok (.iload_n 3, 1) := by decide +kernel
theorem dX0_takePieces_62 : decode cX0_takePieces 62 = .ok (.iaload, 1) := by decide +kernel
theorem dX0_takePieces_63 : decode cX0_takePieces 63 = .ok (.iload 4, 2) := by decide +kernel
theorem dX0_takePieces_65 : decode cX0_takePieces 65 = .ok (.invokevirtual 48, 3) := by decide +kernel
theorem dX0_takePieces_68 : decode cX0_takePieces 68 = .ok (.iload_n 2, 1) := by decide +kernel
theorem dX0_takePieces_69 : decode cX0_takePieces 69 = .ok (.iload 4, 2) := by decide +kernel
theorem dX0_takePieces_71 : decode cX0_takePieces 71 = .ok (.iadd, 1) := by decide +kernel
theorem dX0_takePieces_72 : decode cX0_takePieces 72 = .ok (.istore_n 2, 1) := by decide +kernel
theorem dX0_takePieces_73 : decode cX0_takePieces 73 = .ok (.goto (-61), 3) := by decide +kernel
theorem dX0_takePieces_76 : decode cX0_takePieces 76 = .ok (.iload_n 2, 1) := by decide +kernel
theorem dX0_takePieces_77 : decode cX0_takePieces 77 = .ok (.ireturn, 1) := by decide +kernel
abbrev cX0_largestExtent : ByteArray := prog_1_method_15_code
def yX0_largestExtent : MethodName := ⟨RX0, "largestExtent", "()I"⟩
theorem dX0_largestExtent_0 : decode cX0_largestExtent 0 = .ok (.aload_n 0, 1) := by decide +kernel
theorem dX0_largestExtent_1 : decode cX0_largestExtent 1 = .ok (.getfield 16, 3) := by decide +kernel
theorem dX0_largestExtent_4 : decode cX0_largestExtent 4 = .ok (.aload_n 0, 1) := by decide +kernel
theorem dX0_largestExtent_5 : decode cX0_largestExtent 5 = .ok (.getfield 22, 3) := by decide +kernel
theorem dX0_largestExtent_8 : decode cX0_largestExtent 8 = .ok (.iconst 1, 1) := by decide +kernel
theorem dX0_largestExtent_9 : decode cX0_largestExtent 9 = .ok (.isub, 1) := by decide +kernel
theorem dX0_largestExtent_10 : decode cX0_largestExtent 10 = .ok (.iaload, 1) := by decide +kernel
theorem dX0_largestExtent_11 : decode cX0_largestExtent 11 = .ok (.sipush 256, 3) := by decide +kernel
theorem dX0_largestExtent_14 : decode cX0_largestExtent 14 = .ok (.idiv, 1) := by decide +kernel
theorem dX0_largestExtent_15 : decode cX0_largestExtent 15 = .ok (.istore_n 1, 1) := by decide +kernel
theorem dX0_largestExtent_16 : decode cX0_largestExtent 16 = .ok (.aload_n 0, 1) := by decide +kernel
theorem dX0_largestExtent_17 : decode cX0_largestExtent 17 = .ok (.iload_n 1, 1) := by decide +kernel
theorem dX0_largestExtent_18 : decode cX0_largestExtent 18 = .ok (.sipush 256, 3) := by decide +kernel
theorem dX0_largestExtent_21 : decode cX0_largestExtent 21 = .ok (.imul, 1) := by decide +kernel
theorem dX0_largestExtent_22 : decode cX0_largestExtent 22 = .ok (.invokevirtual 30, 3) := by decide +kernel
theorem dX0_largestExtent_25 : decode cX0_largestExtent 25 = .ok (.istore_n 2, 1) := by decide +kernel
theorem dX0_largestExtent_26 : decode cX0_largestExtent 26 = .ok (.aload_n 0, 1) := by decide +kernel
theorem dX0_largestExtent_27 : decode cX0_largestExtent 27 = .ok (.aload_n 0, 1) := by decide +kernel
theorem dX0_largestExtent_28 : decode cX0_largestExtent 28 = .ok (.getfield 16, 3) := by decide +kernel
theorem dX0_largestExtent_31 : decode cX0_largestExtent 31 = .ok (.iload_n 2, 1) := by decide +kernel
theorem dX0_largestExtent_32 : decode cX0_largestExtent 32 = .ok (.iaload, 1) := by decide +kernel
theorem dX0_largestExtent_33 : decode cX0_largestExtent 33 = .ok (.sipush 256, 3) := by decide +kernel
theorem dX0_largestExtent_36 : decode cX0_largestExtent 36 = .ok (.irem, 1) := by decide +kernel
theorem dX0_largestExtent_37 : decode cX0_largestExtent 37 = .ok (.invokevirtual 26, 3) := by decide +kernel
theorem dX0_largestExtent_40 : decode cX0_largestExtent 40 = .ok (.ireturn, 1) := by decide +kernel
abbrev cX0_free : ByteArray := prog_1_method_18_code
def yX0_free : MethodName := ⟨RX0, "free", "(I)Z"⟩
theorem dX0_free_0 : decode cX0_free 0 = .ok (.iload_n 1, 1) := by decide +kernel
theorem dX0_free_1 : decode cX0_free 1 = .ok (.invokestatic 52, 3) := by decide +kernel
theorem dX0_free_4 : decode cX0_free 4 = .ok (.ifCond .eq 5, 3) := by decide +kernel
theorem dX0_free_7 : decode cX0_free 7 = .ok (.iconst 0, 1) := by decide +kernel
theorem dX0_free_8 : decode cX0_free 8 = .ok (.ireturn, 1) := by decide +kernel
theorem dX0_free_9 : decode cX0_free 9 = .ok (.aload_n 0, 1) := by decide +kernel
theorem dX0_free_10 : decode cX0_free 10 = .ok (.iload_n 1, 1) := by decide +kernel
theorem dX0_free_11 : decode cX0_free 11 = .ok (.invokevirtual 59, 3) := by decide +kernel
theorem dX0_free_14 : decode cX0_free 14 = .ok (.istore_n 2, 1) := by decide +kernel
theorem dX0_free_15 : decode cX0_free 15 = .ok (.iload_n 2, 1) := by decide +kernel
theorem dX0_free_16 : decode cX0_free 16 = .ok (.ifCond .lt 7, 3) := by decide +kernel
theorem dX0_free_19 : decode cX0_free 19 = .ok (.iconst 1, 1) := by decide +kernel
theorem dX0_free_20 : decode cX0_free 20 = .ok (.goto 4, 3) := by decide +kernel
theorem dX0_free_23 : decode cX0_free 23 = .ok (.iconst 0, 1) := by decide +kernel
theorem dX0_free_24 : decode cX0_free 24 = .ok (.ireturn, 1) := by decide +kernel
abbrev cX0_freeBlocks : ByteArray := prog_1_method_19_code
def yX0_freeBlocks : MethodName := ⟨RX0, "freeBlocks", "()I"⟩
theorem dX0_freeBlocks_0 : decode cX0_freeBlocks 0 = .ok (.aload_n 0, 1) := by decide +kernel
theorem dX0_freeBlocks_1 : decode cX0_freeBlocks 1 = .ok (.getfield 33, 3) := by decide +kernel
theorem dX0_freeBlocks_4 : decode cX0_freeBlocks 4 = .ok (.ireturn, 1) := by decide +kernel
abbrev cX0_extents : ByteArray := prog_1_method_20_code
def yX0_extents : MethodName := ⟨RX0, "extents", "()I"⟩
theorem dX0_extents_0 : decode cX0_extents 0 = .ok (.aload_n 0, 1) := by decide +kernel
theorem dX0_extents_1 : decode cX0_extents 1 = .ok (.getfield 22, 3) := by decide +kernel
theorem dX0_extents_4 : decode cX0_extents 4 = .ok (.ireturn, 1) := by decide +kernel
abbrev cX0_largest : ByteArray := prog_1_method_21_code
def yX0_largest : MethodName := ⟨RX0, "largest", "()I"⟩
theorem dX0_largest_0 : decode cX0_largest 0 = .ok (.aload_n 0, 1) := by decide +kernel
theorem dX0_largest_1 : decode cX0_largest 1 = .ok (.getfield 22, 3) := by decide +kernel
theorem dX0_largest_4 : decode cX0_largest 4 = .ok (.ifCond .ne 7, 3) := by decide +kernel
theorem dX0_largest_7 : decode cX0_largest 7 = .ok (.iconst 0, 1) := by decide +kernel
theorem dX0_largest_8 : decode cX0_largest 8 = .ok (.goto 18, 3) := by decide +kernel
theorem dX0_largest_11 : decode cX0_largest 11 = .ok (.aload_n 0, 1) := by decide +kernel
theorem dX0_largest_12 : decode cX0_largest 12 = .ok (.getfield 16, 3) := by decide +kernel
theorem dX0_largest_15 : decode cX0_largest 15 = .ok (.aload_n 0, 1) := by decide +kernel
theorem dX0_largest_16 : decode cX0_largest 16 = .ok (.getfield 22, 3) := by decide +kernel
theorem dX0_largest_19 : decode cX0_largest 19 = .ok (.iconst 1, 1) := by decide +kernel
theorem dX0_largest_20 : decode cX0_largest 20 = .ok (.isub, 1) := by decide +kernel
theorem dX0_largest_21 : decode cX0_largest 21 = .ok (.iaload, 1) := by decide +kernel
theorem dX0_largest_22 : decode cX0_largest 22 = .ok (.sipush 256, 3) := by decide +kernel
theorem dX0_largest_25 : decode cX0_largest 25 = .ok (.idiv, 1) := by decide +kernel
theorem dX0_largest_26 : decode cX0_largest 26 = .ok (.ireturn, 1) := by decide +kernel
abbrev cX0_next : ByteArray := prog_1_method_22_code
def yX0_next : MethodName := ⟨RX0, "next", "(I)I"⟩
theorem dX0_next_0 : decode cX0_next 0 = .ok (.iload_n 1, 1) := by decide +kernel
theorem dX0_next_1 : decode cX0_next 1 = .ok (.invokestatic 52, 3) := by decide +kernel
theorem dX0_next_4 : decode cX0_next 4 = .ok (.ifCond .eq 5, 3) := by decide +kernel
theorem dX0_next_7 : decode cX0_next 7 = .ok (.iconst (-1), 1) := by decide +kernel
theorem dX0_next_8 : decode cX0_next 8 = .ok (.ireturn, 1) := by decide +kernel
theorem dX0_next_9 : decode cX0_next 9 = .ok (.aload_n 0, 1) := by decide +kernel
theorem dX0_next_10 : decode cX0_next 10 = .ok (.iload_n 1, 1) := by decide +kernel
theorem dX0_next_11 : decode cX0_next 11 = .ok (.invokevirtual 26, 3) := by decide +kernel
theorem dX0_next_14 : decode cX0_next 14 = .ok (.istore_n 2, 1) := by decide +kernel
theorem dX0_next_15 : decode cX0_next 15 = .ok (.iload_n 2, 1) := by decide +kernel
theorem dX0_next_16 : decode cX0_next 16 = .ok (.aload_n 0, 1) := by decide +kernel
theorem dX0_next_17 : decode cX0_next 17 = .ok (.getfield 22, 3) := by decide +kernel
theorem dX0_next_20 : decode cX0_next 20 = .ok (.if_icmp .ne 8, 3) := by decide +kernel
theorem dX0_next_23 : decode cX0_next 23 = .ok (.bipush (-6), 2) := by decide +kernel
theorem dX0_next_25 : decode cX0_next 25 = .ok (.goto 9, 3) := by decide +kernel
theorem dX0_next_28 : decode cX0_next 28 = .ok (.aload_n 0, 1) := by decide +kernel
theorem dX0_next_29 : decode cX0_next 29 = .ok (.getfield 7, 3) := by decide +kernel
theorem dX0_next_32 : decode cX0_next 32 = .ok (.iload_n 2, 1) := by decide +kernel
theorem dX0_next_33 : decode cX0_next 33 = .ok (.iaload, 1) := by decide +kernel
theorem dX0_next_34 : decode cX0_next 34 = .ok (.ireturn, 1) := by decide +kernel
abbrev cX0_sizeAt : ByteArray := prog_1_method_23_code
def yX0_sizeAt : MethodName := ⟨RX0, "sizeAt", "(I)I"⟩
theorem dX0_sizeAt_0 : decode cX0_sizeAt 0 = .ok (.iload_n 1, 1) := by decide +kernel
theorem dX0_sizeAt_1 : decode cX0_sizeAt 1 = .ok (.invokestatic 52, 3) := by decide +kernel
theorem dX0_sizeAt_4 : decode cX0_sizeAt 4 = .ok (.ifCond .eq 5, 3) := by decide +kernel
theorem dX0_sizeAt_7 : decode cX0_sizeAt 7 = .ok (.iconst (-1), 1) := by decide +kernel
theorem dX0_sizeAt_8 : decode cX0_sizeAt 8 = .ok (.ireturn, 1) := by decide +kernel
theorem dX0_sizeAt_9 : decode cX0_sizeAt 9 = .ok (.aload_n 0, 1) := by decide +kernel
theorem dX0_sizeAt_10 : decode cX0_sizeAt 10 = .ok (.iload_n 1, 1) := by decide +kernel
theorem dX0_sizeAt_11 : decode cX0_sizeAt 11 = .ok (.invokevirtual 59, 3) := by decide +kernel
theorem dX0_sizeAt_14 : decode cX0_sizeAt 14 = .ok (.istore_n 2, 1) := by decide +kernel
theorem dX0_sizeAt_15 : decode cX0_sizeAt 15 = .ok (.iload_n 2, 1) := by decide +kernel
theorem dX0_sizeAt_16 : decode cX0_sizeAt 16 = .ok (.ifCond .ge 7, 3) := by decide +kernel
theorem dX0_sizeAt_19 : decode cX0_sizeAt 19 = .ok (.iconst 0, 1) := by decide +kernel
theorem dX0_sizeAt_20 : decode cX0_sizeAt 20 = .ok (.goto 9, 3) := by decide +kernel
theorem dX0_sizeAt_23 : decode cX0_sizeAt 23 = .ok (.aload_n 0, 1) := by decide +kernel
theorem dX0_sizeAt_24 : decode cX0_sizeAt 24 = .ok (.getfield 13, 3) := by decide +kernel
theorem dX0_sizeAt_27 : decode cX0_sizeAt 27 = .ok (.iload_n 2, 1) := by decide +kernel
theorem dX0_sizeAt_28 : decode cX0_sizeAt 28 = .ok (.iaload, 1) := by decide +kernel
theorem dX0_sizeAt_29 : decode cX0_sizeAt 29 = .ok (.ireturn, 1) := by decide +kernel
abbrev cX0_bySize : ByteArray := prog_1_method_24_code
def yX0_bySize : MethodName := ⟨RX0, "bySize", "(I)I"⟩
theorem dX0_bySize_0 : decode cX0_bySize 0 = .ok (.iload_n 1, 1) := by decide +kernel
theorem dX0_bySize_1 : decode cX0_bySize 1 = .ok (.ifCond .lt 11, 3) := by decide +kernel
theorem dX0_bySize_4 : decode cX0_bySize 4 = .ok (.iload_n 1, 1) := by decide +kernel
theorem dX0_bySize_5 : decode cX0_bySize 5 = .ok (.aload_n 0, 1) := by decide +kernel
theorem dX0_bySize_6 : decode cX0_bySize 6 = .ok (.getfield 22, 3) := by decide +kernel
theorem dX0_bySize_9 : decode cX0_bySize 9 = .ok (.if_icmp .lt 8, 3) := by decide +kernel
theorem dX0_bySize_12 : decode cX0_bySize 12 = .ok (.bipush (-6), 2) := by decide +kernel
theorem dX0_bySize_14 : decode cX0_bySize 14 = .ok (.goto 13, 3) := by decide +kernel
theorem dX0_bySize_17 : decode cX0_bySize 17 = .ok (.aload_n 0, 1) := by decide +kernel
theorem dX0_bySize_18 : decode cX0_bySize 18 = .ok (.getfield 16, 3) := by decide +kernel
theorem dX0_bySize_21 : decode cX0_bySize 21 = .ok (.iload_n 1, 1) := by decide +kernel
theorem dX0_bySize_22 : decode cX0_bySize 22 = .ok (.iaload, 1) := by decide +kernel
theorem dX0_bySize_23 : decode cX0_bySize 23 = .ok (.sipush 256, 3) := by decide +kernel
theorem dX0_bySize_26 : decode cX0_bySize 26 = .ok (.irem, 1) := by decide +kernel
theorem dX0_bySize_27 : decode cX0_bySize 27 = .ok (.ireturn, 1) := by decide +kernel
abbrev cX0_atLeast : ByteArray := prog_1_method_25_code
def yX0_atLeast : MethodName := ⟨RX0, "atLeast", "(I)I"⟩
theorem dX0_atLeast_0 : decode cX0_atLeast 0 = .ok (.iload_n 1, 1) := by decide +kernel
theorem dX0_atLeast_1 : decode cX0_atLeast 1 = .ok (.sipush 256, 3) := by decide +kernel
theorem dX0_atLeast_4 : decode cX0_atLeast 4 = .ok (.if_icmp .le 5, 3) := by decide +kernel
theorem dX0_atLeast_7 : decode cX0_atLeast 7 = .ok (.iconst 0, 1) := by decide +kernel
theorem dX0_atLeast_8 : decode cX0_atLeast 8 = .ok (.ireturn, 1) := by decide +kernel
theorem dX0_atLeast_9 : decode cX0_atLeast 9 = .ok (.iload_n 1, 1) := by decide +kernel
theorem dX0_atLeast_10 : decode cX0_atLeast 10 = .ok (.iconst 1, 1) := by decide +kernel
theorem dX0_atLeast_11 : decode cX0_atLeast 11 = .ok (.if_icmp .ge 8, 3) := by decide +kernel
theorem dX0_atLeast_14 : decode cX0_atLeast 14 = .ok (.aload_n 0, 1) := by decide +kernel
theorem dX0_atLeast_15 : decode cX0_atLeast 15 = .ok (.getfield 22, 3) := by decide +kernel
theorem dX0_atLeast_18 : decode cX0_atLeast 18 = .ok (.ireturn, 1) := by decide +kernel
theorem dX0_atLeast_19 : decode cX0_atLeast 19 = .ok (.aload_n 0, 1) := by decide +kernel
theorem dX0_atLeast_20 : decode cX0_atLeast 20 = .ok (.getfield 22, 3) := by decide +kernel
theorem dX0_atLeast_23 : decode cX0_atLeast 23 = .ok (.aload_n 0, 1) := by decide +kernel
theorem dX0_atLeast_24 : decode cX0_atLeast 24 = .ok (.iload_n 1, 1) := by decide +kernel
theorem dX0_atLeast_25 : decode cX0_atLeast 25 = .ok (.sipush 256, 3) := by decide +kernel
theorem dX0_atLeast_28 : decode cX0_atLeast 28 = .ok (.imul, 1) := by decide +kernel
theorem dX0_atLeast_29 : decode cX0_atLeast 29 = .ok (.invokevirtual 30, 3) := by decide +kernel
theorem dX0_atLeast_32 : decode cX0_atLeast 32 = .ok (.isub, 1) := by decide +kernel
theorem dX0_atLeast_33 : decode cX0_atLeast 33 = .ok (.ireturn, 1) := by decide +kernel
theorem q15 : (Jvm.Cond.initialized "ExtentIndex") ∈ lw_all := lw_g (lw_at lw_m0 1 rfl) rfl
theorem q18 : (Jvm.Cond.instantiable "ExtentIndex" (5 : Nat)) ∈ lw_all := lw_g (lw_at lw_m0 4 rfl) rfl
theorem q20 : (Jvm.Cond.instanceMethod ({ cls := "ExtentIndex", name := "<init>", desc := "()V" } : Jvm.MethodName)) ∈ lw_all := lw_g (lw_at lw_m0 6 rfl) rfl
theorem q21 : (Jvm.Cond.code ({ cls := "ExtentIndex", name := "<init>", desc := "()V" } : Jvm.MethodName) prog_1_method_1_code (1 : Nat) (Option.none : Option Jvm.ClassFile.FieldType)) ∈ lw_all := lw_g (lw_at lw_m0 7 rfl) rfl
theorem q22 : (Jvm.Cond.methodLink "ExtentIndex" (1 : Nat) ({ cls := "java/lang/Object", name := "<init>", desc := "()V" } : Jvm.MethodName)) ∈ lw_all := lw_g (lw_at lw_m0 8 rfl) rfl
theorem q25 : (Jvm.Cond.methodLink "ExtentIndex" (19 : Nat) ({ cls := "ExtentIndex", name := "clear", desc := "()V" } : Jvm.MethodName)) ∈ lw_all := lw_g (lw_at lw_m0 11 rfl) rfl
theorem q26 : (Jvm.Cond.instanceMethod ({ cls := "ExtentIndex", name := "clear", desc := "()V" } : Jvm.MethodName)) ∈ lw_all := lw_g (lw_at lw_m0 12 rfl) rfl
theorem q27 : (Jvm.Cond.selects "ExtentIndex" ({ cls := "ExtentIndex", name := "clear", desc := "()V" } : Jvm.MethodName) ({ cls := "ExtentIndex", name := "clear", desc := "()V" } : Jvm.MethodName)) ∈ lw_all := lw_g (lw_at lw_m0 13 rfl) rfl
theorem q28 : (Jvm.Cond.code ({ cls := "ExtentIndex", name := "clear", desc := "()V" } : Jvm.MethodName) prog_1_method_17_code (1 : Nat) (Option.none : Option Jvm.ClassFile.FieldType)) ∈ lw_all := lw_g (lw_at lw_m0 14 rfl) rfl
theorem q29 : (Jvm.Cond.methodLink "ExtentIndex" (40 : Nat) ({ cls := "ExtentIndex", name := "insert", desc := "(II)V" } : Jvm.MethodName)) ∈ lw_all := lw_g (lw_at lw_m0 15 rfl) rfl
theorem q30 : (Jvm.Cond.privateMethod ({ cls := "ExtentIndex", name := "insert", desc := "(II)V" } : Jvm.MethodName)) ∈ lw_tbl := lw_at lw_m0 16 rfl
theorem q31 : (Jvm.Cond.instanceMethod ({ cls := "ExtentIndex", name := "insert", desc := "(II)V" } : Jvm.MethodName)) ∈ lw_all := lw_g (lw_at lw_m0 17 rfl) rfl
theorem q32 : (Jvm.Cond.code ({ cls := "ExtentIndex", name := "insert", desc := "(II)V" } : Jvm.MethodName) prog_1_method_6_code (6 : Nat) (Option.none : Option Jvm.ClassFile.FieldType)) ∈ lw_all := lw_g (lw_at lw_m0 18 rfl) rfl
theorem q33 : (Jvm.Cond.methodLink "ExtentIndex" (26 : Nat) ({ cls := "ExtentIndex", name := "firstFrom", desc := "(I)I" } : Jvm.MethodName)) ∈ lw_all := lw_g (lw_at lw_m0 19 rfl) rfl
theorem q34 : (Jvm.Cond.privateMethod ({ cls := "ExtentIndex", name := "firstFrom", desc := "(I)I" } : Jvm.MethodName)) ∈ lw_tbl := lw_at lw_m0 20 rfl
theorem q35 : (Jvm.Cond.instanceMethod ({ cls := "ExtentIndex", name := "firstFrom", desc := "(I)I" } : Jvm.MethodName)) ∈ lw_all := lw_g (lw_at lw_m0 21 rfl) rfl
theorem q36 : (Jvm.Cond.code ({ cls := "ExtentIndex", name := "firstFrom", desc := "(I)I" } : Jvm.MethodName) prog_1_method_4_code (5 : Nat) (Option.some Jvm.ClassFile.FieldType.int)) ∈ lw_all := lw_g (lw_at lw_m0 22 rfl) rfl
theorem q37 : (Jvm.Cond.methodLink "ExtentIndex" (30 : Nat) ({ cls := "ExtentIndex", name := "keyFrom", desc := "(I)I" } : Jvm.MethodName)) ∈ lw_all := lw_g (lw_at lw_m0 23 rfl) rfl
theorem q38 : (Jvm.Cond.privateMethod ({ cls := "ExtentIndex", name := "keyFrom", desc := "(I)I" } : Jvm.MethodName)) ∈ lw_tbl := lw_at lw_m0 24 rfl
theorem q39 : (Jvm.Cond.instanceMethod ({ cls := "ExtentIndex", name := "keyFrom", desc := "(I)I" } : Jvm.MethodName)) ∈ lw_all := lw_g (lw_at lw_m0 25 rfl) rfl
theorem q40 : (Jvm.Cond.code ({ cls := "ExtentIndex", name := "keyFrom", desc := "(I)I" } : Jvm.MethodName) prog_1_method_5_code (5 : Nat) (Option.some Jvm.ClassFile.FieldType.int)) ∈ lw_all := lw_g (lw_at lw_m0 26 rfl) rfl
theorem q41 : (Jvm.Cond.fieldLink "ExtentIndex" (22 : Nat) "ExtentIndex" "count" "I") ∈ lw_all := lw_g (lw_at lw_m0 27 rfl) rfl
theorem q42 : (Jvm.Cond.fieldLink "ExtentIndex" (7 : Nat) "ExtentIndex" "place" "[I") ∈ lw_all := lw_g (lw_at lw_m0 28 rfl) rfl
theorem q43 : (Jvm.Cond.fieldLink "ExtentIndex" (13 : Nat) "ExtentIndex" "size" "[I") ∈ lw_all := lw_g (lw_at lw_m0 29 rfl) rfl
theorem q44 : (Jvm.Cond.fieldLink "ExtentIndex" (16 : Nat) "ExtentIndex" "bySize" "[I") ∈ lw_all := lw_g (lw_at lw_m0 30 rfl) rfl
theorem q45 : (Jvm.Cond.fieldLink "ExtentIndex" (33 : Nat) "ExtentIndex" "total" "I") ∈ lw_all := lw_g (lw_at lw_m0 31 rfl) rfl
theorem q46 : (Jvm.Cond.lays "ExtentIndex" "ExtentIndex" "count" "I") ∈ lw_all := lw_g (lw_at lw_m0 32 rfl) rfl
theorem q47 : (Jvm.Cond.soleField "ExtentIndex" "count") ∈ lw_all := lw_g (lw_at lw_m0 33 rfl) rfl
theorem q48 : (Jvm.Cond.laysFinal "ExtentIndex" "ExtentIndex" "place" "[I") ∈ lw_all := lw_g (lw_at lw_m0 34 rfl) rfl
theorem q49 : (Jvm.Cond.soleField "ExtentIndex" "place") ∈ lw_all := lw_g (lw_at lw_m0 35 rfl) rfl
theorem q50 : (Jvm.Cond.laysFinal "ExtentIndex" "ExtentIndex" "size" "[I") ∈ lw_all := lw_g (lw_at lw_m0 36 rfl) rfl
theorem q51 : (Jvm.Cond.soleField "ExtentIndex" "size") ∈ lw_all := lw_g (lw_at lw_m0 37 rfl) rfl
theorem q52 : (Jvm.Cond.laysFinal "ExtentIndex" "ExtentIndex" "bySize" "[I") ∈ lw_all := lw_g (lw_at lw_m0 38 rfl) rfl
theorem q53 : (Jvm.Cond.soleField "ExtentIndex" "bySize") ∈ lw_all := lw_g (lw_at lw_m0 39 rfl) rfl
theorem q54 : (Jvm.Cond.lays "ExtentIndex" "ExtentIndex" "total" "I") ∈ lw_all := lw_g (lw_at lw_m0 40 rfl) rfl
theorem q55 : (Jvm.Cond.soleField "ExtentIndex" "total") ∈ lw_all := lw_g (lw_at lw_m0 41 rfl) rfl
theorem q56 : (Jvm.Cond.superclass "ExtentIndex" "java/lang/Object") ∈ lw_all := lw_g (lw_at lw_m0 42 rfl) rfl
theorem q59 : (Jvm.Cond.instanceMethod ({ cls := "ExtentIndex", name := "take", desc := "(I)I" } : Jvm.MethodName)) ∈ lw_all := lw_g (lw_at lw_m0 45 rfl) rfl
theorem q60 : (Jvm.Cond.selects "ExtentIndex" ({ cls := "ExtentIndex", name := "take", desc := "(I)I" } : Jvm.MethodName) ({ cls := "ExtentIndex", name := "take", desc := "(I)I" } : Jvm.MethodName)) ∈ lw_all := lw_g (lw_at lw_m0 46 rfl) rfl
theorem q61 : (Jvm.Cond.code ({ cls := "ExtentIndex", name := "take", desc := "(I)I" } : Jvm.MethodName) prog_1_method_10_code (5 : Nat) (Option.some Jvm.ClassFile.FieldType.int)) ∈ lw_all := lw_g (lw_at lw_m0 47 rfl) rfl
theorem q62 : (Jvm.Cond.methodLink "ExtentIndex" (44 : Nat) ({ cls := "ExtentIndex", name := "badSize", desc := "(I)Z" } : Jvm.MethodName)) ∈ lw_all := lw_g (lw_at lw_m0 48 rfl) rfl
theorem q63 : (Jvm.Cond.static ({ cls := "ExtentIndex", name := "badSize", desc := "(I)Z" } : Jvm.MethodName)) ∈ lw_all := lw_g (lw_at lw_m0 49 rfl) rfl
theorem q64 : (Jvm.Cond.code ({ cls := "ExtentIndex", name := "badSize", desc := "(I)Z" } : Jvm.MethodName) prog_1_method_3_code (1 : Nat) (Option.some Jvm.ClassFile.FieldType.boolean)) ∈ lw_all := lw_g (lw_at lw_m0 50 rfl) rfl
theorem q65 : (Jvm.Cond.methodLink "ExtentIndex" (48 : Nat) ({ cls := "ExtentIndex", name := "cut", desc := "(III)V" } : Jvm.MethodName)) ∈ lw_all := lw_g (lw_at lw_m0 51 rfl) rfl
theorem q66 : (Jvm.Cond.privateMethod ({ cls := "ExtentIndex", name := "cut", desc := "(III)V" } : Jvm.MethodName)) ∈ lw_tbl := lw_at lw_m0 52 rfl
theorem q67 : (Jvm.Cond.instanceMethod ({ cls := "ExtentIndex", name := "cut", desc := "(III)V" } : Jvm.MethodName)) ∈ lw_all := lw_g (lw_at lw_m0 53 rfl) rfl
theorem q68 : (Jvm.Cond.code ({ cls := "ExtentIndex", name := "cut", desc := "(III)V" } : Jvm.MethodName) prog_1_method_9_code (6 : Nat) (Option.none : Option Jvm.ClassFile.FieldType)) ∈ lw_all := lw_g (lw_at lw_m0 54 rfl) rfl
theorem q69 : (Jvm.Cond.methodLink "ExtentIndex" (36 : Nat) ({ cls := "ExtentIndex", name := "remove", desc := "(I)V" } : Jvm.MethodName)) ∈ lw_all := lw_g (lw_at lw_m0 55 rfl) rfl
theorem q70 : (Jvm.Cond.privateMethod ({ cls := "ExtentIndex", name := "remove", desc := "(I)V" } : Jvm.MethodName)) ∈ lw_tbl := lw_at lw_m0 56 rfl
theorem q71 : (Jvm.Cond.instanceMethod ({ cls := "ExtentIndex", name := "remove", desc := "(I)V" } : Jvm.MethodName)) ∈ lw_all := lw_g (lw_at lw_m0 57 rfl) rfl
theorem q72 : (Jvm.Cond.code ({ cls := "ExtentIndex", name := "remove", desc := "(I)V" } : Jvm.MethodName) prog_1_method_7_code (4 : Nat) (Option.none : Option Jvm.ClassFile.FieldType)) ∈ lw_all := lw_g (lw_at lw_m0 58 rfl) rfl
theorem q74 : (Jvm.Cond.instanceMethod ({ cls := "ExtentIndex", name := "takeNear", desc := "(II)I" } : Jvm.MethodName)) ∈ lw_all := lw_g (lw_at lw_m0 60 rfl) rfl
theorem q75 : (Jvm.Cond.selects "ExtentIndex" ({ cls := "ExtentIndex", name := "takeNear", desc := "(II)I" } : Jvm.MethodName) ({ cls := "ExtentIndex", name := "takeNear", desc := "(II)I" } : Jvm.MethodName)) ∈ lw_all := lw_g (lw_at lw_m0 61 rfl) rfl
theorem q76 : (Jvm.Cond.code ({ cls := "ExtentIndex", name := "takeNear", desc := "(II)I" } : Jvm.MethodName) prog_1_method_11_code (8 : Nat) (Option.some Jvm.ClassFile.FieldType.int)) ∈ lw_all := lw_g (lw_at lw_m0 62 rfl) rfl
theorem q77 : (Jvm.Cond.methodLink "ExtentIndex" (52 : Nat) ({ cls := "ExtentIndex", name := "badBlock", desc := "(I)Z" } : Jvm.MethodName)) ∈ lw_all := lw_g (lw_at lw_m0 63 rfl) rfl
theorem q78 : (Jvm.Cond.static ({ cls := "ExtentIndex", name := "badBlock", desc := "(I)Z" } : Jvm.MethodName)) ∈ lw_all := lw_g (lw_at lw_m0 64 rfl) rfl
theorem q79 : (Jvm.Cond.code ({ cls := "ExtentIndex", name := "badBlock", desc := "(I)Z" } : Jvm.MethodName) prog_1_method_2_code (1 : Nat) (Option.some Jvm.ClassFile.FieldType.boolean)) ∈ lw_all := lw_g (lw_at lw_m0 65 rfl) rfl
theorem q81 : (Jvm.Cond.instanceMethod ({ cls := "ExtentIndex", name := "takeAt", desc := "(II)I" } : Jvm.MethodName)) ∈ lw_all := lw_g (lw_at lw_m0 67 rfl) rfl
theorem q82 : (Jvm.Cond.selects "ExtentIndex" ({ cls := "ExtentIndex", name := "takeAt", desc := "(II)I" } : Jvm.MethodName) ({ cls := "ExtentIndex", name := "takeAt", desc := "(II)I" } : Jvm.MethodName)) ∈ lw_all := lw_g (lw_at lw_m0 68 rfl) rfl
theorem q83 : (Jvm.Cond.code ({ cls := "ExtentIndex", name := "takeAt", desc := "(II)I" } : Jvm.MethodName) prog_1_method_13_code (4 : Nat) (Option.some Jvm.ClassFile.FieldType.int)) ∈ lw_all := lw_g (lw_at lw_m0 69 rfl) rfl
theorem q84 : (Jvm.Cond.methodLink "ExtentIndex" (55 : Nat) ({ cls := "ExtentIndex", name := "beyond", desc := "(II)Z" } : Jvm.MethodName)) ∈ lw_all := lw_g (lw_at lw_m0 70 rfl) rfl
theorem q85 : (Jvm.Cond.static ({ cls := "ExtentIndex", name := "beyond", desc := "(II)Z" } : Jvm.MethodName)) ∈ lw_all := lw_g (lw_at lw_m0 71 rfl) rfl
theorem q86 : (Jvm.Cond.code ({ cls := "ExtentIndex", name := "beyond", desc := "(II)Z" } : Jvm.MethodName) prog_1_method_12_code (2 : Nat) (Option.some Jvm.ClassFile.FieldType.boolean)) ∈ lw_all := lw_g (lw_at lw_m0 72 rfl) rfl
theorem q87 : (Jvm.Cond.methodLink "ExtentIndex" (59 : Nat) ({ cls := "ExtentIndex", name := "extentOf", desc := "(I)I" } : Jvm.MethodName)) ∈ lw_all := lw_g (lw_at lw_m0 73 rfl) rfl
theorem q88 : (Jvm.Cond.privateMethod ({ cls := "ExtentIndex", name := "extentOf", desc := "(I)I" } : Jvm.MethodName)) ∈ lw_tbl := lw_at lw_m0 74 rfl
theorem q89 : (Jvm.Cond.instanceMethod ({ cls := "ExtentIndex", name := "extentOf", desc := "(I)I" } : Jvm.MethodName)) ∈ lw_all := lw_g (lw_at lw_m0 75 rfl) rfl
theorem q90 : (Jvm.Cond.code ({ cls := "ExtentIndex", name := "extentOf", desc := "(I)I" } : Jvm.MethodName) prog_1_method_8_code (3 : Nat) (Option.some Jvm.ClassFile.FieldType.int)) ∈ lw_all := lw_g (lw_at lw_m0 76 rfl) rfl
theorem q92 : (Jvm.Cond.instanceMethod ({ cls := "ExtentIndex", name := "give", desc := "(II)I" } : Jvm.MethodName)) ∈ lw_all := lw_g (lw_at lw_m0 78 rfl) rfl
theorem q93 : (Jvm.Cond.selects "ExtentIndex" ({ cls := "ExtentIndex", name := "give", desc := "(II)I" } : Jvm.MethodName) ({ cls := "ExtentIndex", name := "give", desc := "(II)I" } : Jvm.MethodName)) ∈ lw_all := lw_g (lw_at lw_m0 79 rfl) rfl
theorem q94 : (Jvm.Cond.code ({ cls := "ExtentIndex", name := "give", desc := "(II)I" } : Jvm.MethodName) prog_1_method_14_code (7 : Nat) (Option.some Jvm.ClassFile.FieldType.int)) ∈ lw_all := lw_g (lw_at lw_m0 80 rfl) rfl
theorem q96 : (Jvm.Cond.instanceMethod ({ cls := "ExtentIndex", name := "takePieces", desc := "(I)I" } : Jvm.MethodName)) ∈ lw_all := lw_g (lw_at lw_m0 82 rfl) rfl
theorem q97 : (Jvm.Cond.selects "ExtentIndex" ({ cls := "ExtentIndex", name := "takePieces", desc := "(I)I" } : Jvm.MethodName) ({ cls := "ExtentIndex", name := "takePieces", desc := "(I)I" } : Jvm.MethodName)) ∈ lw_all := lw_g (lw_at lw_m0 83 rfl) rfl
theorem q98 : (Jvm.Cond.code ({ cls := "ExtentIndex", name := "takePieces", desc := "(I)I" } : Jvm.MethodName) prog_1_method_16_code (5 : Nat) (Option.some Jvm.ClassFile.FieldType.int)) ∈ lw_all := lw_g (lw_at lw_m0 84 rfl) rfl
theorem q99 : (Jvm.Cond.methodLink "ExtentIndex" (62 : Nat) ({ cls := "ExtentIndex", name := "largestExtent", desc := "()I" } : Jvm.MethodName)) ∈ lw_all := lw_g (lw_at lw_m0 85 rfl) rfl
theorem q100 : (Jvm.Cond.privateMethod ({ cls := "ExtentIndex", name := "largestExtent", desc := "()I" } : Jvm.MethodName)) ∈ lw_tbl := lw_at lw_m0 86 rfl
theorem q101 : (Jvm.Cond.instanceMethod ({ cls := "ExtentIndex", name := "largestExtent", desc := "()I" } : Jvm.MethodName)) ∈ lw_all := lw_g (lw_at lw_m0 87 rfl) rfl
theorem q102 : (Jvm.Cond.code ({ cls := "ExtentIndex", name := "largestExtent", desc := "()I" } : Jvm.MethodName) prog_1_method_15_code (3 : Nat) (Option.some Jvm.ClassFile.FieldType.int)) ∈ lw_all := lw_g (lw_at lw_m0 88 rfl) rfl
theorem q105 : (Jvm.Cond.instanceMethod ({ cls := "ExtentIndex", name := "free", desc := "(I)Z" } : Jvm.MethodName)) ∈ lw_all := lw_g (lw_at lw_m0 91 rfl) rfl
theorem q106 : (Jvm.Cond.selects "ExtentIndex" ({ cls := "ExtentIndex", name := "free", desc := "(I)Z" } : Jvm.MethodName) ({ cls := "ExtentIndex", name := "free", desc := "(I)Z" } : Jvm.MethodName)) ∈ lw_all := lw_g (lw_at lw_m0 92 rfl) rfl
theorem q107 : (Jvm.Cond.code ({ cls := "ExtentIndex", name := "free", desc := "(I)Z" } : Jvm.MethodName) prog_1_method_18_code (3 : Nat) (Option.some Jvm.ClassFile.FieldType.boolean)) ∈ lw_all := lw_g (lw_at lw_m0 93 rfl) rfl
theorem q109 : (Jvm.Cond.instanceMethod ({ cls := "ExtentIndex", name := "freeBlocks", desc := "()I" } : Jvm.MethodName)) ∈ lw_all := lw_g (lw_at lw_m0 95 rfl) rfl
theorem q110 : (Jvm.Cond.selects "ExtentIndex" ({ cls := "ExtentIndex", name := "freeBlocks", desc := "()I" } : Jvm.MethodName) ({ cls := "ExtentIndex", name := "freeBlocks", desc := "()I" } : Jvm.MethodName)) ∈ lw_all := lw_g (lw_at lw_m0 96 rfl) rfl
theorem q111 : (Jvm.Cond.code ({ cls := "ExtentIndex", name := "freeBlocks", desc := "()I" } : Jvm.MethodName) prog_1_method_19_code (1 : Nat) (Option.some Jvm.ClassFile.FieldType.int)) ∈ lw_all := lw_g (lw_at lw_m0 97 rfl) rfl
theorem q113 : (Jvm.Cond.instanceMethod ({ cls := "ExtentIndex", name := "extents", desc := "()I" } : Jvm.MethodName)) ∈ lw_all := lw_g (lw_at lw_m0 99 rfl) rfl
theorem q114 : (Jvm.Cond.selects "ExtentIndex" ({ cls := "ExtentIndex", name := "extents", desc := "()I" } : Jvm.MethodName) ({ cls := "ExtentIndex", name := "extents", desc := "()I" } : Jvm.MethodName)) ∈ lw_all := lw_g (lw_at lw_m0 100 rfl) rfl
theorem q115 : (Jvm.Cond.code ({ cls := "ExtentIndex", name := "extents", desc := "()I" } : Jvm.MethodName) prog_1_method_20_code (1 : Nat) (Option.some Jvm.ClassFile.FieldType.int)) ∈ lw_all := lw_g (lw_at lw_m0 101 rfl) rfl
theorem q117 : (Jvm.Cond.instanceMethod ({ cls := "ExtentIndex", name := "largest", desc := "()I" } : Jvm.MethodName)) ∈ lw_all := lw_g (lw_at lw_m0 103 rfl) rfl
theorem q118 : (Jvm.Cond.selects "ExtentIndex" ({ cls := "ExtentIndex", name := "largest", desc := "()I" } : Jvm.MethodName) ({ cls := "ExtentIndex", name := "largest", desc := "()I" } : Jvm.MethodName)) ∈ lw_all := lw_g (lw_at lw_m0 104 rfl) rfl
theorem q119 : (Jvm.Cond.code ({ cls := "ExtentIndex", name := "largest", desc := "()I" } : Jvm.MethodName) prog_1_method_21_code (1 : Nat) (Option.some Jvm.ClassFile.FieldType.int)) ∈ lw_all := lw_g (lw_at lw_m0 105 rfl) rfl
theorem q121 : (Jvm.Cond.instanceMethod ({ cls := "ExtentIndex", name := "next", desc := "(I)I" } : Jvm.MethodName)) ∈ lw_all := lw_g (lw_at lw_m0 107 rfl) rfl
theorem q122 : (Jvm.Cond.selects "ExtentIndex" ({ cls := "ExtentIndex", name := "next", desc := "(I)I" } : Jvm.MethodName) ({ cls := "ExtentIndex", name := "next", desc := "(I)I" } : Jvm.MethodName)) ∈ lw_all := lw_g (lw_at lw_m0 108 rfl) rfl
theorem q123 : (Jvm.Cond.code ({ cls := "ExtentIndex", name := "next", desc := "(I)I" } : Jvm.MethodName) prog_1_method_22_code (3 : Nat) (Option.some Jvm.ClassFile.FieldType.int)) ∈ lw_all := lw_g (lw_at lw_m0 109 rfl) rfl
theorem q125 : (Jvm.Cond.instanceMethod ({ cls := "ExtentIndex", name := "sizeAt", desc := "(I)I" } : Jvm.MethodName)) ∈ lw_all := lw_g (lw_at lw_m0 111 rfl) rfl
theorem q126 : (Jvm.Cond.selects "ExtentIndex" ({ cls := "ExtentIndex", name := "sizeAt", desc := "(I)I" } : Jvm.MethodName) ({ cls := "ExtentIndex", name := "sizeAt", desc := "(I)I" } : Jvm.MethodName)) ∈ lw_all := lw_g (lw_at lw_m0 112 rfl) rfl
theorem q127 : (Jvm.Cond.code ({ cls := "ExtentIndex", name := "sizeAt", desc := "(I)I" } : Jvm.MethodName) prog_1_method_23_code (3 : Nat) (Option.some Jvm.ClassFile.FieldType.int)) ∈ lw_all := lw_g (lw_at lw_m0 113 rfl) rfl
theorem q129 : (Jvm.Cond.instanceMethod ({ cls := "ExtentIndex", name := "bySize", desc := "(I)I" } : Jvm.MethodName)) ∈ lw_all := lw_g (lw_at lw_m0 115 rfl) rfl
theorem q130 : (Jvm.Cond.selects "ExtentIndex" ({ cls := "ExtentIndex", name := "bySize", desc := "(I)I" } : Jvm.MethodName) ({ cls := "ExtentIndex", name := "bySize", desc := "(I)I" } : Jvm.MethodName)) ∈ lw_all := lw_g (lw_at lw_m0 116 rfl) rfl
theorem q131 : (Jvm.Cond.code ({ cls := "ExtentIndex", name := "bySize", desc := "(I)I" } : Jvm.MethodName) prog_1_method_24_code (2 : Nat) (Option.some Jvm.ClassFile.FieldType.int)) ∈ lw_all := lw_g (lw_at lw_m0 117 rfl) rfl
theorem q133 : (Jvm.Cond.instanceMethod ({ cls := "ExtentIndex", name := "atLeast", desc := "(I)I" } : Jvm.MethodName)) ∈ lw_all := lw_g (lw_at lw_m0 119 rfl) rfl
theorem q134 : (Jvm.Cond.selects "ExtentIndex" ({ cls := "ExtentIndex", name := "atLeast", desc := "(I)I" } : Jvm.MethodName) ({ cls := "ExtentIndex", name := "atLeast", desc := "(I)I" } : Jvm.MethodName)) ∈ lw_all := lw_g (lw_at lw_m0 120 rfl) rfl
theorem q135 : (Jvm.Cond.code ({ cls := "ExtentIndex", name := "atLeast", desc := "(I)I" } : Jvm.MethodName) prog_1_method_25_code (2 : Nat) (Option.some Jvm.ClassFile.FieldType.int)) ∈ lw_all := lw_g (lw_at lw_m0 121 rfl) rfl
theorem in_X0 : ∀ w ∈ wsX00, w ∈ lw_all := lw_in wsX00 [46, 48, 50, 52, 54] (by decide +kernel) (by decide +kernel)
end
section
/-! ExtentIndexModel -/
set_option maxRecDepth 100000
def RX1 : String := "ExtentIndexModel"
def TX1 : u_T := fun k => match k with
  | _ => ("ExtentIndexModel", "taken", "[Z", true)
def tyX1 : Nat → FieldType := fun k => match k with
  | _ => .array .boolean
abbrev wsX10 : List Cond := u_ws RX1 TX1 1
theorem nmX1 : ∀ a, a < 1 → ∀ b, b < 1 → a ≠ b → (TX1 a).2.1 ≠ (TX1 b).2.1 := by decide +kernel
theorem tyX1_ok : ∀ k, k < 1 → parseFieldDescriptor (TX1 k).2.2.1 = some (tyX1 k) := by decide +kernel
abbrev cX1_init : ByteArray := prog_3_method_1_code
def yX1_init : MethodName := ⟨RX1, "<init>", "()V"⟩
theorem dX1_init_0 : decode cX1_init 0 = .ok (.aload_n 0, 1) := by decide +kernel
theorem dX1_init_1 : decode cX1_init 1 = .ok (.invokespecial 1, 3) := by decide +kernel
theorem dX1_init_4 : decode cX1_init 4 = .ok (.aload_n 0, 1) := by decide +kernel
theorem dX1_init_5 : decode cX1_init 5 = .ok (.sipush 256, 3) := by decide +kernel
theorem dX1_init_8 : decode cX1_init 8 = .ok (.newarray .boolean, 2) := by decide +kernel
theorem dX1_init_10 : decode cX1_init 10 = .ok (.putfield 7, 3) := by decide +kernel
theorem dX1_init_13 : decode cX1_init 13 = .ok (.return_, 1) := by decide +kernel
abbrev cX1_take : ByteArray := prog_3_method_7_code
def yX1_take : MethodName := ⟨RX1, "take", "(I)I"⟩
theorem dX1_take_0 : decode cX1_take 0 = .ok (.aload_n 0, 1) := by decide +kernel
theorem dX1_take_1 : decode cX1_take 1 = .ok (.iload_n 1, 1) := by decide +kernel
theorem dX1_take_2 : decode cX1_take 2 = .ok (.invokevirtual 17, 3) := by decide +kernel
theorem dX1_take_5 : decode cX1_take 5 = .ok (.ifCond .eq 6, 3) := by decide +kernel
theorem dX1_take_8 : decode cX1_take 8 = .ok (.bipush (-2), 2) := by decide +kernel
theorem dX1_take_10 : decode cX1_take 10 = .ok (.ireturn, 1) := by decide +kernel
theorem dX1_take_11 : decode cX1_take 11 = .ok (.iconst (-1), 1) := by decide +kernel
theorem dX1_take_12 : decode cX1_take 12 = .ok (.istore_n 2, 1) := by decide +kernel
theorem dX1_take_13 : decode cX1_take 13 = .ok (.sipush 1000, 3) := by decide +kernel
theorem dX1_take_16 : decode cX1_take 16 = .ok (.istore_n 3, 1) := by decide +kernel
theorem dX1_take_17 : decode cX1_take 17 = .ok (.iconst 0, 1) := by decide +kernel
theorem dX1_take_18 : decode cX1_take 18 = .ok (.istore 4, 2) := by decide +kernel
theorem dX1_take_20 : decode cX1_take 20 = .ok (.iload 4, 2) := by decide +kernel
theorem dX1_take_22 : decode cX1_take 22 = .ok (.sipush 256, 3) := by decide +kernel
theorem dX1_take_25 : decode cX1_take 25 = .ok (.if_icmp .ge 44, 3) := by decide +kernel
theorem dX1_take_28 : decode cX1_take 28 = .ok (.aload_n 0, 1) := by decide +kernel
theorem dX1_take_29 : decode cX1_take 29 = .ok (.iload 4, 2) := by decide +kernel
theorem dX1_take_31 : decode cX1_take 31 = .ok (.invokevirtual 20, 3) := by decide +kernel
theorem dX1_take_34 : decode cX1_take 34 = .ok (.ifCond .eq 29, 3) := by decide +kernel
theorem dX1_take_37 : decode cX1_take 37 = .ok (.aload_n 0, 1) := by decide +kernel
theorem dX1_take_38 : decode cX1_take 38 = .ok (.iload 4, 2) := by decide +kernel
theorem dX1_take_40 : decode cX1_take 40 = .ok (.invokevirtual 23, 3) := by decide +kernel
theorem dX1_take_43 : decode cX1_take 43 = .ok (.istore 5, 2) := by decide +kernel
theorem dX1_take_45 : decode cX1_take 45 = .ok (.iload 5, 2) := by decide +kernel
theorem dX1_take_47 : decode cX1_take 47 = .ok (.iload_n 1, 1) := by decide +kernel
theorem dX1_take_48 : decode cX1_take 48 = .ok (.if_icmp .lt 15, 3) := by decide +kernel
theorem dX1_take_51 : decode cX1_take 51 = .ok (.iload 5, 2) := by decide +kernel
theorem dX1_take_53 : decode cX1_take 53 = .ok (.iload_n 3, 1) := by decide +kernel
theorem dX1_take_54 : decode cX1_take 54 = .ok (.if_icmp .ge 9, 3) := by decide +kernel
theorem dX1_take_57 : decode cX1_take 57 = .ok (.iload 4, 2) := by decide +kernel
theorem dX1_take_59 : decode cX1_take 59 = .ok (.istore_n 2, 1) := by decide +kernel
theorem dX1_take_60 : decode cX1_take 60 = .ok (.iload 5, 2) := by decide +kernel
theorem dX1_take_62 : decode cX1_take 62 = .ok (.istore_n 3, 1) := by decide +kernel
theorem dX1_take_63 : decode cX1_take 63 = .ok (.iinc 4 1, 3) := by decide +kernel
theorem dX1_take_66 : decode cX1_take 66 = .ok (.goto (-46), 3) := by decide +kernel
theorem dX1_take_69 : decode cX1_take 69 = .ok (.iload_n 2, 1) := by decide +kernel
theorem dX1_take_70 : decode cX1_take 70 = .ok (.ifCond .ge 6, 3) := by decide +kernel
theorem dX1_take_73 : decode cX1_take 73 = .ok (.bipush (-3), 2) := by decide +kernel
theorem dX1_take_75 : decode cX1_take 75 = .ok (.ireturn, 1) := by decide +kernel
theorem dX1_take_76 : decode cX1_take 76 = .ok (.aload_n 0, 1) := by decide +kernel
theorem dX1_take_77 : decode cX1_take 77 = .ok (.iload_n 2, 1) := by decide +kernel
theorem dX1_take_78 : decode cX1_take 78 = .ok (.iload_n 1, 1) := by decide +kernel
theorem dX1_take_79 : decode cX1_take 79 = .ok (.iconst 1, 1) := by decide +kernel
theorem dX1_take_80 : decode cX1_take 80 = .ok (.invokevirtual 27, 3) := by decide +kernel
theorem dX1_take_83 : decode cX1_take 83 = .ok (.iload_n 2, 1) := by decide +kernel
theorem dX1_take_84 : decode cX1_take 84 = .ok (.ireturn, 1) := by decide +kernel
abbrev cX1_badSize : ByteArray := prog_3_method_3_code
def yX1_badSize : MethodName := ⟨RX1, "badSize", "(I)Z"⟩
theorem dX1_badSize_0 : decode cX1_badSize 0 = .ok (.iload_n 1, 1) := by decide +kernel
theorem dX1_badSize_1 : decode cX1_badSize 1 = .ok (.iconst 1, 1) := by decide +kernel
theorem dX1_badSize_2 : decode cX1_badSize 2 = .ok (.if_icmp .lt 10, 3) := by decide +kernel
theorem dX1_badSize_5 : decode cX1_badSize 5 = .ok (.iload_n 1, 1) := by decide +kernel
theorem dX1_badSize_6 : decode cX1_badSize 6 = .ok (.sipush 256, 3) := by decide +kernel
theorem dX1_badSize_9 : decode cX1_badSize 9 = .ok (.if_icmp .le 7, 3) := by decide +kernel
theorem dX1_badSize_12 : decode cX1_badSize 12 = .ok (.iconst 1, 1) := by decide +kernel
theorem dX1_badSize_13 : decode cX1_badSize 13 = .ok (.goto 4, 3) := by decide +kernel
theorem dX1_badSize_16 : decode cX1_badSize 16 = .ok (.iconst 0, 1) := by decide +kernel
theorem dX1_badSize_17 : decode cX1_badSize 17 = .ok (.ireturn, 1) := by decide +kernel
abbrev cX1_begins : ByteArray := prog_3_method_4_code
def yX1_begins : MethodName := ⟨RX1, "begins", "(I)Z"⟩
theorem dX1_begins_0 : decode cX1_begins 0 = .ok (.aload_n 0, 1) := by decide +kernel
theorem dX1_begins_1 : decode cX1_begins 1 = .ok (.iload_n 1, 1) := by decide +kernel
theorem dX1_begins_2 : decode cX1_begins 2 = .ok (.invokevirtual 13, 3) := by decide +kernel
theorem dX1_begins_5 : decode cX1_begins 5 = .ok (.ifCond .ne 12, 3) := by decide +kernel
theorem dX1_begins_8 : decode cX1_begins 8 = .ok (.aload_n 0, 1) := by decide +kernel
theorem dX1_begins_9 : decode cX1_begins 9 = .ok (.getfield 7, 3) := by decide +kernel
theorem dX1_begins_12 : decode cX1_begins 12 = .ok (.iload_n 1, 1) := by decide +kernel
theorem dX1_begins_13 : decode cX1_begins 13 = .ok (.baload, 1) := by decide +kernel
theorem dX1_begins_14 : decode cX1_begins 14 = .ok (.ifCond .eq 5, 3) := by decide +kernel
theorem dX1_begins_17 : decode cX1_begins 17 = .ok (.iconst 0, 1) := by decide +kernel
theorem dX1_begins_18 : decode cX1_begins 18 = .ok (.ireturn, 1) := by decide +kernel
theorem dX1_begins_19 : decode cX1_begins 19 = .ok (.iload_n 1, 1) := by decide +kernel
theorem dX1_begins_20 : decode cX1_begins 20 = .ok (.ifCond .eq 14, 3) := by decide +kernel
theorem dX1_begins_23 : decode cX1_begins 23 = .ok (.aload_n 0, 1) := by decide +kernel
theorem dX1_begins_24 : decode cX1_begins 24 = .ok (.getfield 7, 3) := by decide +kernel
theorem dX1_begins_27 : decode cX1_begins 27 = .ok (.iload_n 1, 1) := by decide +kernel
theorem dX1_begins_28 : decode cX1_begins 28 = .ok (.iconst 1, 1) := by decide +kernel
theorem dX1_begins_29 : decode cX1_begins 29 = .ok (.isub, 1) := by decide +kernel
theorem dX1_begins_30 : decode cX1_begins 30 = .ok (.baload, 1) := by decide +kernel
theorem dX1_begins_31 : decode cX1_begins 31 = .ok (.ifCond .eq 7, 3) := by decide +kernel
theorem dX1_begins_34 : decode cX1_begins 34 = .ok (.iconst 1, 1) := by decide +kernel
theorem dX1_begins_35 : decode cX1_begins 35 = .ok (.goto 4, 3) := by decide +kernel
theorem dX1_begins_38 : decode cX1_begins 38 = .ok (.iconst 0, 1) := by decide +kernel
theorem dX1_begins_39 : decode cX1_begins 39 = .ok (.ireturn, 1) := by decide +kernel
abbrev cX1_badBlock : ByteArray := prog_3_method_2_code
def yX1_badBlock : MethodName := ⟨RX1, "badBlock", "(I)Z"⟩
theorem dX1_badBlock_0 : decode cX1_badBlock 0 = .ok (.iload_n 1, 1) := by decide +kernel
theorem dX1_badBlock_1 : decode cX1_badBlock 1 = .ok (.ifCond .lt 10, 3) := by decide +kernel
theorem dX1_badBlock_4 : decode cX1_badBlock 4 = .ok (.iload_n 1, 1) := by decide +kernel
theorem dX1_badBlock_5 : decode cX1_badBlock 5 = .ok (.sipush 255, 3) := by decide +kernel
theorem dX1_badBlock_8 : decode cX1_badBlock 8 = .ok (.if_icmp .le 7, 3) := by decide +kernel
theorem dX1_badBlock_11 : decode cX1_badBlock 11 = .ok (.iconst 1, 1) := by decide +kernel
theorem dX1_badBlock_12 : decode cX1_badBlock 12 = .ok (.goto 4, 3) := by decide +kernel
theorem dX1_badBlock_15 : decode cX1_badBlock 15 = .ok (.iconst 0, 1) := by decide +kernel
theorem dX1_badBlock_16 : decode cX1_badBlock 16 = .ok (.ireturn, 1) := by decide +kernel
abbrev cX1_run : ByteArray := prog_3_method_5_code
def yX1_run : MethodName := ⟨RX1, "run", "(I)I"⟩
theorem dX1_run_0 : decode cX1_run 0 = .ok (.iconst 0, 1) := by decide +kernel
theorem dX1_run_1 : decode cX1_run 1 = .ok (.istore_n 2, 1) := by decide +kernel
theorem dX1_run_2 : decode cX1_run 2 = .ok (.iload_n 1, 1) := by decide +kernel
theorem dX1_run_3 : decode cX1_run 3 = .ok (.istore_n 3, 1) := by decide +kernel
theorem dX1_run_4 : decode cX1_run 4 = .ok (.iload_n 3, 1) := by decide +kernel
theorem dX1_run_5 : decode cX1_run 5 = .ok (.sipush 256, 3) := by decide +kernel
theorem dX1_run_8 : decode cX1_run 8 = .ok (.if_icmp .ge 23, 3) := by decide +kernel
theorem dX1_run_11 : decode cX1_run 11 = .ok (.aload_n 0, 1) := by decide +kernel
theorem dX1_run_12 : decode cX1_run 12 = .ok (.getfield 7, 3) := by decide +kernel
theorem dX1_run_15 : decode cX1_run 15 = .ok (.iload_n 3, 1) := by decide +kernel
theorem dX1_run_16 : decode cX1_run 16 = .ok (.baload, 1) := by decide +kernel
theorem dX1_run_17 : decode cX1_run 17 = .ok (.ifCond .eq 5, 3) := by decide +kernel
theorem dX1_run_20 : decode cX1_run 20 = .ok (.iload_n 2, 1) := by decide +kernel
theorem dX1_run_21 : decode cX1_run 21 = .ok (.ireturn, 1) := by decide +kernel
theorem dX1_run_22 : decode cX1_run 22 = .ok (.iinc 2 1, 3) := by decide +kernel
theorem dX1_run_25 : decode cX1_run 25 = .ok (.iinc 3 1, 3) := by decide +kernel
theorem dX1_run_28 : decode cX1_run 28 = .ok (.goto (-24), 3) := by decide +kernel
theorem dX1_run_31 : decode cX1_run 31 = .ok (.iload_n 2, 1) := by decide +kernel
theorem dX1_run_32 : decode cX1_run 32 = .ok (.ireturn, 1) := by decide +kernel
abbrev cX1_mark : ByteArray := prog_3_method_6_code
def yX1_mark : MethodName := ⟨RX1, "mark", "(IIZ)V"⟩
theorem dX1_mark_0 : decode cX1_mark 0 = .ok (.iload_n 1, 1) := by decide +kernel
theorem dX1_mark_1 : decode cX1_mark 1 = .ok (.istore 4, 2) := by decide +kernel
theorem dX1_mark_3 : decode cX1_mark 3 = .ok (.iload 4, 2) := by decide +kernel
theorem dX1_mark_5 : decode cX1_mark 5 = .ok (.iload_n 1, 1) := by decide +kernel
theorem dX1_mark_6 : decode cX1_mark 6 = .ok (.iload_n 2, 1) := by decide +kernel
theorem dX1_mark_7 : decode cX1_mark 7 = .ok (.iadd, 1) := by decide +kernel
theorem dX1_mark_8 : decode cX1_mark 8 = .ok (.if_icmp .ge 30, 3) := by decide +kernel
theorem dX1_mark_11 : decode cX1_mark 11 = .ok (.iload 4, 2) := by decide +kernel
theorem dX1_mark_13 : decode cX1_mark 13 = .ok (.ifCond .lt 19, 3) := by decide +kernel
theorem dX1_mark_16 : decode cX1_mark 16 = .ok (.iload 4, 2) := by decide +kernel
theorem dX1_mark_18 : decode cX1_mark 18 = .ok (.sipush 256, 3) := by decide +kernel
theorem dX1_mark_21 : decode cX1_mark 21 = .ok (.if_icmp .ge 11, 3) := by decide +kernel
theorem dX1_mark_24 : decode cX1_mark 24 = .ok (.aload_n 0, 1) := by decide +kernel
theorem dX1_mark_25 : decode cX1_mark 25 = .ok (.getfield 7, 3) := by decide +kernel
theorem dX1_mark_28 : decode cX1_mark 28 = .ok (.iload 4, 2) := by decide +kernel
theorem dX1_mark_30 : decode cX1_mark 30 = .ok (.iload_n 3, 1) := by decide +kernel
theorem dX1_mark_31 : decode cX1_mark 31 = .ok (.bastore, 1) := by decide +kernel
theorem dX1_mark_32 : decode cX1_mark 32 = .ok (.iinc 4 1, 3) := by decide +kernel
theorem dX1_mark_35 : decode cX1_mark 35 = .ok (.goto (-32), 3) := by decide +kernel
theorem dX1_mark_38 : decode cX1_mark 38 = .ok (.return_, 1) := by decide +kernel
abbrev cX1_takeNear : ByteArray := prog_3_method_9_code
def yX1_takeNear : MethodName := ⟨RX1, "takeNear", "(II)I"⟩
theorem dX1_takeNear_0 : decode cX1_takeNear 0 = .ok (.aload_n 0, 1) := by decide +kernel
theorem dX1_takeNear_1 : decode cX1_takeNear 1 = .ok (.iload_n 1, 1) := by decide +kernel
theorem dX1_takeNear_2 : decode cX1_takeNear 2 = .ok (.invokevirtual 13, 3) := by decide +kernel
theorem dX1_takeNear_5 : decode cX1_takeNear 5 = .ok (.ifCond .eq 5, 3) := by decide +kernel
theorem dX1_takeNear_8 : decode cX1_takeNear 8 = .ok (.iconst (-1), 1) := by decide +kernel
theorem dX1_takeNear_9 : decode cX1_takeNear 9 = .ok (.ireturn, 1) := by decide +kernel
theorem dX1_takeNear_10 : decode cX1_takeNear 10 = .ok (.aload_n 0, 1) := by decide +kernel
theorem dX1_takeNear_11 : decode cX1_takeNear 11 = .ok (.iload_n 2, 1) := by decide +kernel
theorem dX1_takeNear_12 : decode cX1_takeNear 12 = .ok (.invokevirtual 17, 3) := by decide +kernel
theorem dX1_takeNear_15 : decode cX1_takeNear 15 = .ok (.ifCond .eq 6, 3) := by decide +kernel
theorem dX1_takeNear_18 : decode cX1_takeNear 18 = .ok (.bipush (-2), 2) := by decide +kernel
theorem dX1_takeNear_20 : decode cX1_takeNear 20 = .ok (.ireturn, 1) := by decide +kernel
theorem dX1_takeNear_21 : decode cX1_takeNear 21 = .ok (.iconst (-1), 1) := by decide +kernel
theorem dX1_takeNear_22 : decode cX1_takeNear 22 = .ok (.istore_n 3, 1) := by decide +kernel
theorem dX1_takeNear_23 : decode cX1_takeNear 23 = .ok (.iconst 0, 1) := by decide +kernel
theorem dX1_takeNear_24 : decode cX1_takeNear 24 = .ok (.istore 4, 2) := by decide +kernel
theorem dX1_takeNear_26 : decode cX1_takeNear 26 = .ok (.iload 4, 2) := by decide +kernel
theorem dX1_takeNear_28 : decode cX1_takeNear 28 = .ok (.sipush 256, 3) := by decide +kernel
theorem dX1_takeNear_31 : decode cX1_takeNear 31 = .ok (.if_icmp .ge 51, 3) := by decide +kernel
theorem dX1_takeNear_34 : decode cX1_takeNear 34 = .ok (.aload_n 0, 1) := by decide +kernel
theorem dX1_takeNear_35 : decode cX1_takeNear 35 = .ok (.iload 4, 2) := by decide +kernel
theorem dX1_takeNear_37 : decode cX1_takeNear 37 = .ok (.invokevirtual 20, 3) := by decide +kernel
theorem dX1_takeNear_40 : decode cX1_takeNear 40 = .ok (.ifCond .eq 36, 3) := by decide +kernel
theorem dX1_takeNear_43 : decode cX1_takeNear 43 = .ok (.aload_n 0, 1) := by decide +kernel
theorem dX1_takeNear_44 : decode cX1_takeNear 44 = .ok (.iload 4, 2) := by decide +kernel
theorem dX1_takeNear_46 : decode cX1_takeNear 46 = .ok (.invokevirtual 23, 3) := by decide +kernel
theorem dX1_takeNear_49 : decode cX1_takeNear 49 = .ok (.iload_n 2, 1) := by decide +kernel
theorem dX1_takeNear_50 : decode cX1_takeNear 50 = .ok (.if_icmp .lt 26, 3) := by decide +kernel
theorem dX1_takeNear_53 : decode cX1_takeNear 53 = .ok (.iload_n 3, 1) := by decide +kernel
theorem dX1_takeNear_54 : decode cX1_takeNear 54 = .ok (.ifCond .lt 19, 3) := by decide +kernel
theorem dX1_takeNear_57 : decode cX1_takeNear 57 = .ok (.aload_n 0, 1) := by decide +kernel
theorem dX1_takeNear_58 : decode cX1_takeNear 58 = .ok (.iload 4, 2) := by decide +kernel
theorem dX1_takeNear_60 : decode cX1_takeNear 60 = .ok (.iload_n 1, 1) := by decide +kernel
theorem dX1_takeNear_61 : decode cX1_takeNear 61 = .ok (.invokevirtual 31, 3) := by decide +kernel
theorem dX1_takeNear_64 : decode cX1_takeNear 64 = .ok (.aload_n 0, 1) := by decide +kernel
theorem dX1_takeNear_65 : decode cX1_takeNear 65 = .ok (.iload_n 3, 1) := by decide +kernel
theorem dX1_takeNear_66 : decode cX1_takeNear 66 = .ok (.iload_n 1, 1) := by decide +kernel
theorem dX1_takeNear_67 : decode cX1_takeNear 67 = .ok (.invokevirtual 31, 3) := by decide +kernel
theorem dX1_takeNear_70 : decode cX1_takeNear 70 = .ok (.if_icmp .ge 6, 3) := by decide +kernel
theorem dX1_takeNear_73 : decode cX1_takeNear 73 = .ok (.iload 4, 2) := by decide +kernel
theorem dX1_takeNear_75 : decode cX1_takeNear 75 = .ok (.istore_n 3, 1) := by decide +kernel
theorem dX1_takeNear_76 : decode cX1_takeNear 76 = .ok (.iinc 4 1, 3) := by decide +kernel
theorem dX1_takeNear_79 : decode cX1_takeNear 79 = .ok (.goto (-53), 3) := by decide +kernel
theorem dX1_takeNear_82 : decode cX1_takeNear 82 = .ok (.iload_n 3, 1) := by decide +kernel
theorem dX1_takeNear_83 : decode cX1_takeNear 83 = .ok (.ifCond .ge 6, 3) := by decide +kernel
theorem dX1_takeNear_86 : decode cX1_takeNear 86 = .ok (.bipush (-3), 2) := by decide +kernel
theorem dX1_takeNear_88 : decode cX1_takeNear 88 = .ok (.ireturn, 1) := by decide +kernel
theorem dX1_takeNear_89 : decode cX1_takeNear 89 = .ok (.aload_n 0, 1) := by decide +kernel
theorem dX1_takeNear_90 : decode cX1_takeNear 90 = .ok (.iload_n 3, 1) := by decide +kernel
theorem dX1_takeNear_91 : decode cX1_takeNear 91 = .ok (.iload_n 2, 1) := by decide +kernel
theorem dX1_takeNear_92 : decode cX1_takeNear 92 = .ok (.iconst 1, 1) := by decide +kernel
theorem dX1_takeNear_93 : decode cX1_takeNear 93 = .ok (.invokevirtual 27, 3) := by decide +kernel
theorem dX1_takeNear_96 : decode cX1_takeNear 96 = .ok (.iload_n 3, 1) := by decide +kernel
theorem dX1_takeNear_97 : decode cX1_takeNear 97 = .ok (.ireturn, 1) := by decide +kernel
abbrev cX1_away : ByteArray := prog_3_method_8_code
def yX1_away : MethodName := ⟨RX1, "away", "(II)I"⟩
theorem dX1_away_0 : decode cX1_away 0 = .ok (.iload_n 1, 1) := by decide +kernel
theorem dX1_away_1 : decode cX1_away 1 = .ok (.iload_n 2, 1) := by decide +kernel
theorem dX1_away_2 : decode cX1_away 2 = .ok (.if_icmp .ge 9, 3) := by decide +kernel
theorem dX1_away_5 : decode cX1_away 5 = .ok (.iload_n 2, 1) := by decide +kernel
theorem dX1_away_6 : decode cX1_away 6 = .ok (.iload_n 1, 1) := by decide +kernel
theorem dX1_away_7 : decode cX1_away 7 = .ok (.isub, 1) := by decide +kernel
theorem dX1_away_8 : decode cX1_away 8 = .ok (.goto 6, 3) := by decide +kernel
theorem dX1_away_11 : decode cX1_away 11 = .ok (.iload_n 1, 1) := by decide +kernel
theorem dX1_away_12 : decode cX1_away 12 = .ok (.iload_n 2, 1) := by decide +kernel
theorem dX1_away_13 : decode cX1_away 13 = .ok (.isub, 1) := by decide +kernel
theorem dX1_away_14 : decode cX1_away 14 = .ok (.ireturn, 1) := by decide +kernel
abbrev cX1_takeAt : ByteArray := prog_3_method_11_code
def yX1_takeAt : MethodName := ⟨RX1, "takeAt", "(II)I"⟩
theorem dX1_takeAt_0 : decode cX1_takeAt 0 = .ok (.aload_n 0, 1) := by decide +kernel
theorem dX1_takeAt_1 : decode cX1_takeAt 1 = .ok (.iload_n 1, 1) := by decide +kernel
theorem dX1_takeAt_2 : decode cX1_takeAt 2 = .ok (.iload_n 2, 1) := by decide +kernel
theorem dX1_takeAt_3 : decode cX1_takeAt 3 = .ok (.invokevirtual 35, 3) := by decide +kernel
theorem dX1_takeAt_6 : decode cX1_takeAt 6 = .ok (.istore_n 3, 1) := by decide +kernel
theorem dX1_takeAt_7 : decode cX1_takeAt 7 = .ok (.iload_n 3, 1) := by decide +kernel
theorem dX1_takeAt_8 : decode cX1_takeAt 8 = .ok (.ifCond .ge 5, 3) := by decide +kernel
theorem dX1_takeAt_11 : decode cX1_takeAt 11 = .ok (.iload_n 3, 1) := by decide +kernel
theorem dX1_takeAt_12 : decode cX1_takeAt 12 = .ok (.ireturn, 1) := by decide +kernel
theorem dX1_takeAt_13 : decode cX1_takeAt 13 = .ok (.aload_n 0, 1) := by decide +kernel
theorem dX1_takeAt_14 : decode cX1_takeAt 14 = .ok (.iload_n 1, 1) := by decide +kernel
theorem dX1_takeAt_15 : decode cX1_takeAt 15 = .ok (.invokevirtual 23, 3) := by decide +kernel
theorem dX1_takeAt_18 : decode cX1_takeAt 18 = .ok (.iload_n 2, 1) := by decide +kernel
theorem dX1_takeAt_19 : decode cX1_takeAt 19 = .ok (.if_icmp .ge 6, 3) := by decide +kernel
theorem dX1_takeAt_22 : decode cX1_takeAt 22 = .ok (.bipush (-4), 2) := by decide +kernel
theorem dX1_takeAt_24 : decode cX1_takeAt 24 = .ok (.ireturn, 1) := by decide +kernel
theorem dX1_takeAt_25 : decode cX1_takeAt 25 = .ok (.aload_n 0, 1) := by decide +kernel
theorem dX1_takeAt_26 : decode cX1_takeAt 26 = .ok (.iload_n 1, 1) := by decide +kernel
theorem dX1_takeAt_27 : decode cX1_takeAt 27 = .ok (.iload_n 2, 1) := by decide +kernel
theorem dX1_takeAt_28 : decode cX1_takeAt 28 = .ok (.iconst 1, 1) := by decide +kernel
theorem dX1_takeAt_29 : decode cX1_takeAt 29 = .ok (.invokevirtual 27, 3) := by decide +kernel
theorem dX1_takeAt_32 : decode cX1_takeAt 32 = .ok (.aload_n 0, 1) := by decide +kernel
theorem dX1_takeAt_33 : decode cX1_takeAt 33 = .ok (.invokevirtual 38, 3) := by decide +kernel
theorem dX1_takeAt_36 : decode cX1_takeAt 36 = .ok (.ireturn, 1) := by decide +kernel
abbrev cX1_refusal : ByteArray := prog_3_method_10_code
def yX1_refusal : MethodName := ⟨RX1, "refusal", "(II)I"⟩
theorem dX1_refusal_0 : decode cX1_refusal 0 = .ok (.aload_n 0, 1) := by decide +kernel
theorem dX1_refusal_1 : decode cX1_refusal 1 = .ok (.iload_n 1, 1) := by decide +kernel
theorem dX1_refusal_2 : decode cX1_refusal 2 = .ok (.invokevirtual 13, 3) := by decide +kernel
theorem dX1_refusal_5 : decode cX1_refusal 5 = .ok (.ifCond .eq 5, 3) := by decide +kernel
theorem dX1_refusal_8 : decode cX1_refusal 8 = .ok (.iconst (-1), 1) := by decide +kernel
theorem dX1_refusal_9 : decode cX1_refusal 9 = .ok (.ireturn, 1) := by decide +kernel
theorem dX1_refusal_10 : decode cX1_refusal 10 = .ok (.aload_n 0, 1) := by decide +kernel
theorem dX1_refusal_11 : decode cX1_refusal 11 = .ok (.iload_n 2, 1) := by decide +kernel
theorem dX1_refusal_12 : decode cX1_refusal 12 = .ok (.invokevirtual 17, 3) := by decide +kernel
theorem dX1_refusal_15 : decode cX1_refusal 15 = .ok (.ifCond .ne 12, 3) := by decide +kernel
theorem dX1_refusal_18 : decode cX1_refusal 18 = .ok (.iload_n 2, 1) := by decide +kernel
theorem dX1_refusal_19 : decode cX1_refusal 19 = .ok (.sipush 256, 3) := by decide +kernel
theorem dX1_refusal_22 : decode cX1_refusal 22 = .ok (.iload_n 1, 1) := by decide +kernel
theorem dX1_refusal_23 : decode cX1_refusal 23 = .ok (.isub, 1) := by decide +kernel
theorem dX1_refusal_24 : decode cX1_refusal 24 = .ok (.if_icmp .le 8, 3) := by decide +kernel
theorem dX1_refusal_27 : decode cX1_refusal 27 = .ok (.bipush (-2), 2) := by decide +kernel
theorem dX1_refusal_29 : decode cX1_refusal 29 = .ok (.goto 4, 3) := by decide +kernel
theorem dX1_refusal_32 : decode cX1_refusal 32 = .ok (.iconst 0, 1) := by decide +kernel
theorem dX1_refusal_33 : decode cX1_refusal 33 = .ok (.ireturn, 1) := by decide +kernel
abbrev cX1_extents : ByteArray := prog_3_method_17_code
def yX1_extents : MethodName := ⟨RX1, "extents", "()I"⟩
theorem dX1_extents_0 : decode cX1_extents 0 = .ok (.aload_n 0, 1) := by decide +kernel
theorem dX1_extents_1 : decode cX1_extents 1 = .ok (.iconst 1, 1) := by decide +kernel
theorem dX1_extents_2 : decode cX1_extents 2 = .ok (.invokevirtual 48, 3) := by decide +kernel
theorem dX1_extents_5 : decode cX1_extents 5 = .ok (.ireturn, 1) := by decide +kernel
abbrev cX1_atLeast : ByteArray := prog_3_method_22_code
def yX1_atLeast : MethodName := ⟨RX1, "atLeast", "(I)I"⟩
theorem dX1_atLeast_0 : decode cX1_atLeast 0 = .ok (.iconst 0, 1) := by decide +kernel
theorem dX1_atLeast_1 : decode cX1_atLeast 1 = .ok (.istore_n 2, 1) := by decide +kernel
theorem dX1_atLeast_2 : decode cX1_atLeast 2 = .ok (.iconst 0, 1) := by decide +kernel
theorem dX1_atLeast_3 : decode cX1_atLeast 3 = .ok (.istore_n 3, 1) := by decide +kernel
theorem dX1_atLeast_4 : decode cX1_atLeast 4 = .ok (.iload_n 3, 1) := by decide +kernel
theorem dX1_atLeast_5 : decode cX1_atLeast 5 = .ok (.sipush 256, 3) := by decide +kernel
theorem dX1_atLeast_8 : decode cX1_atLeast 8 = .ok (.if_icmp .ge 29, 3) := by decide +kernel
theorem dX1_atLeast_11 : decode cX1_atLeast 11 = .ok (.aload_n 0, 1) := by decide +kernel
theorem dX1_atLeast_12 : decode cX1_atLeast 12 = .ok (.iload_n 3, 1) := by decide +kernel
theorem dX1_atLeast_13 : decode cX1_atLeast 13 = .ok (.invokevirtual 20, 3) := by decide +kernel
theorem dX1_atLeast_16 : decode cX1_atLeast 16 = .ok (.ifCond .eq 15, 3) := by decide +kernel
theorem dX1_atLeast_19 : decode cX1_atLeast 19 = .ok (.aload_n 0, 1) := by decide +kernel
theorem dX1_atLeast_20 : decode cX1_atLeast 20 = .ok (.iload_n 3, 1) := by decide +kernel
theorem dX1_atLeast_21 : decode cX1_atLeast 21 = .ok (.invokevirtual 23, 3) := by decide +kernel
theorem dX1_atLeast_24 : decode cX1_atLeast 24 = .ok (.iload_n 1, 1) := by decide +kernel
theorem dX1_atLeast_25 : decode cX1_atLeast 25 = .ok (.if_icmp .lt 6, 3) := by decide +kernel
theorem dX1_atLeast_28 : decode cX1_atLeast 28 = .ok (.iinc 2 1, 3) := by decide +kernel
theorem dX1_atLeast_31 : decode cX1_atLeast 31 = .ok (.iinc 3 1, 3) := by decide +kernel
theorem dX1_atLeast_34 : decode cX1_atLeast 34 = .ok (.goto (-30), 3) := by decide +kernel
theorem dX1_atLeast_37 : decode cX1_atLeast 37 = .ok (.iload_n 2, 1) := by decide +kernel
theorem dX1_atLeast_38 : decode cX1_atLeast 38 = .ok (.ireturn, 1) := by decide +kernel
abbrev cX1_give : ByteArray := prog_3_method_12_code
def yX1_give : MethodName := ⟨RX1, "give", "(II)I"⟩
theorem dX1_give_0 : decode cX1_give 0 = .ok (.aload_n 0, 1) := by decide +kernel
theorem dX1_give_1 : decode cX1_give 1 = .ok (.iload_n 1, 1) := by decide +kernel
theorem dX1_give_2 : decode cX1_give 2 = .ok (.iload_n 2, 1) := by decide +kernel
theorem dX1_give_3 : decode cX1_give 3 = .ok (.invokevirtual 35, 3) := by decide +kernel
theorem dX1_give_6 : decode cX1_give 6 = .ok (.istore_n 3, 1) := by decide +kernel
theorem dX1_give_7 : decode cX1_give 7 = .ok (.iload_n 3, 1) := by decide +kernel
theorem dX1_give_8 : decode cX1_give 8 = .ok (.ifCond .ge 5, 3) := by decide +kernel
theorem dX1_give_11 : decode cX1_give 11 = .ok (.iload_n 3, 1) := by decide +kernel
theorem dX1_give_12 : decode cX1_give 12 = .ok (.ireturn, 1) := by decide +kernel
theorem dX1_give_13 : decode cX1_give 13 = .ok (.iload_n 1, 1) := by decide +kernel
theorem dX1_give_14 : decode cX1_give 14 = .ok (.istore 4, 2) := by decide +kernel
theorem dX1_give_16 : decode cX1_give 16 = .ok (.iload 4, 2) := by decide +kernel
theorem dX1_give_18 : decode cX1_give 18 = .ok (.iload_n 1, 1) := by decide +kernel
theorem dX1_give_19 : decode cX1_give 19 = .ok (.iload_n 2, 1) := by decide +kernel
theorem dX1_give_20 : decode cX1_give 20 = .ok (.iadd, 1) := by decide +kernel
theorem dX1_give_21 : decode cX1_give 21 = .ok (.if_icmp .ge 22, 3) := by decide +kernel
theorem dX1_give_24 : decode cX1_give 24 = .ok (.aload_n 0, 1) := by decide +kernel
theorem dX1_give_25 : decode cX1_give 25 = .ok (.getfield 7, 3) := by decide +kernel
theorem dX1_give_28 : decode cX1_give 28 = .ok (.iload 4, 2) := by decide +kernel
theorem dX1_give_30 : decode cX1_give 30 = .ok (.baload, 1) := by decide +kernel
theorem dX1_give_31 : decode cX1_give 31 = .ok (.ifCond .ne 6, 3) := by decide +kernel
theorem dX1_give_34 : decode cX1_give 34 = .ok (.bipush (-5), 2) := by decide +kernel
theorem dX1_give_36 : decode cX1_give 36 = .ok (.ireturn, 1) := by decide +kernel
theorem dX1_give_37 : decode cX1_give 37 = .ok (.iinc 4 1, 3) := by decide +kernel
theorem dX1_give_40 : decode cX1_give 40 = .ok (.goto (-24), 3) := by decide +kernel
theorem dX1_give_43 : decode cX1_give 43 = .ok (.aload_n 0, 1) := by decide +kernel
theorem dX1_give_44 : decode cX1_give 44 = .ok (.iload_n 1, 1) := by decide +kernel
theorem dX1_give_45 : decode cX1_give 45 = .ok (.iload_n 2, 1) := by decide +kernel
theorem dX1_give_46 : decode cX1_give 46 = .ok (.iconst 0, 1) := by decide +kernel
theorem dX1_give_47 : decode cX1_give 47 = .ok (.invokevirtual 27, 3) := by decide +kernel
theorem dX1_give_50 : decode cX1_give 50 = .ok (.aload_n 0, 1) := by decide +kernel
theorem dX1_give_51 : decode cX1_give 51 = .ok (.iload_n 1, 1) := by decide +kernel
theorem dX1_give_52 : decode cX1_give 52 = .ok (.invokevirtual 42, 3) := by decide +kernel
theorem dX1_give_55 : decode cX1_give 55 = .ok (.ireturn, 1) := by decide +kernel
abbrev cX1_sizeAt : ByteArray := prog_3_method_20_code
def yX1_sizeAt : MethodName := ⟨RX1, "sizeAt", "(I)I"⟩
theorem dX1_sizeAt_0 : decode cX1_sizeAt 0 = .ok (.aload_n 0, 1) := by decide +kernel
theorem dX1_sizeAt_1 : decode cX1_sizeAt 1 = .ok (.iload_n 1, 1) := by decide +kernel
theorem dX1_sizeAt_2 : decode cX1_sizeAt 2 = .ok (.invokevirtual 13, 3) := by decide +kernel
theorem dX1_sizeAt_5 : decode cX1_sizeAt 5 = .ok (.ifCond .eq 5, 3) := by decide +kernel
theorem dX1_sizeAt_8 : decode cX1_sizeAt 8 = .ok (.iconst (-1), 1) := by decide +kernel
theorem dX1_sizeAt_9 : decode cX1_sizeAt 9 = .ok (.ireturn, 1) := by decide +kernel
theorem dX1_sizeAt_10 : decode cX1_sizeAt 10 = .ok (.iload_n 1, 1) := by decide +kernel
theorem dX1_sizeAt_11 : decode cX1_sizeAt 11 = .ok (.istore_n 2, 1) := by decide +kernel
theorem dX1_sizeAt_12 : decode cX1_sizeAt 12 = .ok (.iconst 0, 1) := by decide +kernel
theorem dX1_sizeAt_13 : decode cX1_sizeAt 13 = .ok (.istore_n 3, 1) := by decide +kernel
theorem dX1_sizeAt_14 : decode cX1_sizeAt 14 = .ok (.iload_n 3, 1) := by decide +kernel
theorem dX1_sizeAt_15 : decode cX1_sizeAt 15 = .ok (.sipush 256, 3) := by decide +kernel
theorem dX1_sizeAt_18 : decode cX1_sizeAt 18 = .ok (.if_icmp .ge 36, 3) := by decide +kernel
theorem dX1_sizeAt_21 : decode cX1_sizeAt 21 = .ok (.iload_n 2, 1) := by decide +kernel
theorem dX1_sizeAt_22 : decode cX1_sizeAt 22 = .ok (.ifCond .le 26, 3) := by decide +kernel
theorem dX1_sizeAt_25 : decode cX1_sizeAt 25 = .ok (.aload_n 0, 1) := by decide +kernel
theorem dX1_sizeAt_26 : decode cX1_sizeAt 26 = .ok (.getfield 7, 3) := by decide +kernel
theorem dX1_sizeAt_29 : decode cX1_sizeAt 29 = .ok (.iload_n 1, 1) := by decide +kernel
theorem dX1_sizeAt_30 : decode cX1_sizeAt 30 = .ok (.baload, 1) := by decide +kernel
theorem dX1_sizeAt_31 : decode cX1_sizeAt 31 = .ok (.ifCond .ne 17, 3) := by decide +kernel
theorem dX1_sizeAt_34 : decode cX1_sizeAt 34 = .ok (.aload_n 0, 1) := by decide +kernel
theorem dX1_sizeAt_35 : decode cX1_sizeAt 35 = .ok (.getfield 7, 3) := by decide +kernel
theorem dX1_sizeAt_38 : decode cX1_sizeAt 38 = .ok (.iload_n 2, 1) := by decide +kernel
theorem dX1_sizeAt_39 : decode cX1_sizeAt 39 = .ok (.iconst 1, 1) := by decide +kernel
theorem dX1_sizeAt_40 : decode cX1_sizeAt 40 = .ok (.isub, 1) := by decide +kernel
theorem dX1_sizeAt_41 : decode cX1_sizeAt 41 = .ok (.baload, 1) := by decide +kernel
theorem dX1_sizeAt_42 : decode cX1_sizeAt 42 = .ok (.ifCond .ne 6, 3) := by decide +kernel
theorem dX1_sizeAt_45 : decode cX1_sizeAt 45 = .ok (.iinc 2 (-1), 3) := by decide +kernel
theorem dX1_sizeAt_48 : decode cX1_sizeAt 48 = .ok (.iinc 3 1, 3) := by decide +kernel
theorem dX1_sizeAt_51 : decode cX1_sizeAt 51 = .ok (.goto (-37), 3) := by decide +kernel
theorem dX1_sizeAt_54 : decode cX1_sizeAt 54 = .ok (.aload_n 0, 1) := by decide +kernel
theorem dX1_sizeAt_55 : decode cX1_sizeAt 55 = .ok (.iload_n 2, 1) := by decide +kernel
theorem dX1_sizeAt_56 : decode cX1_sizeAt 56 = .ok (.invokevirtual 23, 3) := by decide +kernel
theorem dX1_sizeAt_59 : decode cX1_sizeAt 59 = .ok (.ireturn, 1) := by decide +kernel
abbrev cX1_takePieces : ByteArray := prog_3_method_13_code
def yX1_takePieces : MethodName := ⟨RX1, "takePieces", "(I)I"⟩
theorem dX1_takePieces_0 : decode cX1_takePieces 0 = .ok (.aload_n 0, 1) := by decide +kernel
theorem dX1_takePieces_1 : decode cX1_takePieces 1 = .ok (.iload_n 1, 1) := by decide +kernel
theorem dX1_takePieces_2 : decode cX1_takePieces 2 = .ok (.invokevirtual 17, 3) := by decide +kernel
theorem dX1_takePieces_5 : decode cX1_takePieces 5 = .ok (.ifCond .eq 6, 3) := by decide +kernel
theorem dX1_takePieces_8 : decode cX1_takePieces 8 = .ok (.bipush (-2), 2) := by decide +kernel
theorem dX1_takePieces_10 : decode cX1_takePieces 10 = .ok (.ireturn, 1) := by decide +kernel
theorem dX1_takePieces_11 : decode cX1_takePieces 11 = .ok (.iconst 0, 1) := by decide +kernel
theorem dX1_takePieces_12 : decode cX1_takePieces 12 = .ok (.istore_n 2, 1) := by decide +kernel
theorem dX1_takePieces_13 : decode cX1_takePieces 13 = .ok (.iconst 0, 1) := by decide +kernel
theorem dX1_takePieces_14 : decode cX1_takePieces 14 = .ok (.istore_n 3, 1) := by decide +kernel
theorem dX1_takePieces_15 : decode cX1_takePieces 15 = .ok (.iload_n 3, 1) := by decide +kernel
theorem dX1_takePieces_16 : decode cX1_takePieces 16 = .ok (.sipush 256, 3) := by decide +kernel
theorem dX1_takePieces_19 : decode cX1_takePieces 19 = .ok (.if_icmp .ge 100, 3) := by decide +kernel
theorem dX1_takePieces_22 : decode cX1_takePieces 22 = .ok (.iload_n 2, 1) := by decide +kernel
theorem dX1_takePieces_23 : decode cX1_takePieces 23 = .ok (.iload_n 1, 1) := by decide +kernel
theorem dX1_takePieces_24 : decode cX1_takePieces 24 = .ok (.if_icmp .ge 95, 3) := by decide +kernel
theorem dX1_takePieces_27 : decode cX1_takePieces 27 = .ok (.aload_n 0, 1) := by decide +kernel
theorem dX1_takePieces_28 : decode cX1_takePieces 28 = .ok (.invokevirtual 45, 3) := by decide +kernel
theorem dX1_takePieces_31 : decode cX1_takePieces 31 = .ok (.istore 4, 2) := by decide +kernel
theorem dX1_takePieces_33 : decode cX1_takePieces 33 = .ok (.iconst (-1), 1) := by decide +kernel
theorem dX1_takePieces_34 : decode cX1_takePieces 34 = .ok (.istore 5, 2) := by decide +kernel
theorem dX1_takePieces_36 : decode cX1_takePieces 36 = .ok (.sipush 255, 3) := by decide +kernel
theorem dX1_takePieces_39 : decode cX1_takePieces 39 = .ok (.istore 6, 2) := by decide +kernel
theorem dX1_takePieces_41 : decode cX1_takePieces 41 = .ok (.iload 6, 2) := by decide +kernel
theorem dX1_takePieces_43 : decode cX1_takePieces 43 = .ok (.ifCond .lt 33, 3) := by decide +kernel
theorem dX1_takePieces_46 : decode cX1_takePieces 46 = .ok (.aload_n 0, 1) := by decide +kernel
theorem dX1_takePieces_47 : decode cX1_takePieces 47 = .ok (.iload 6, 2) := by decide +kernel
theorem dX1_takePieces_49 : decode cX1_takePieces 49 = .ok (.invokevirtual 20, 3) := by decide +kernel
theorem dX1_takePieces_52 : decode cX1_takePieces 52 = .ok (.ifCond .eq 18, 3) := by decide +kernel
theorem dX1_takePieces_55 : decode cX1_takePieces 55 = .ok (.aload_n 0, 1) := by decide +kernel
theorem dX1_takePieces_56 : decode cX1_takePieces 56 = .ok (.iload 6, 2) := by decide +kernel
theorem dX1_takePieces_58 : decode cX1_takePieces 58 = .ok (.invokevirtual 23, 3) := by decide +kernel
theorem dX1_takePieces_61 : decode cX1_takePieces 61 = .ok (.iload 4, 2) := by decide +kernel
theorem dX1_takePieces_63 : decode cX1_takePieces 63 = .ok (.if_icmp .ne 7, 3) := by decide +kernel
theorem dX1_takePieces_66 : decode cX1_takePieces 66 = .ok (.iload 6, 2) := by decide +kernel
theorem dX1_takePieces_68 : decode cX1_takePieces 68 = .ok (.istore 5, 2) := by decide +kernel
theorem dX1_takePieces_70 : decode cX1_takePieces 70 = .ok (.iinc 6 (-1), 3) := by decide +kernel
theorem dX1_takePieces_73 : decode cX1_takePieces 73 = .ok (.goto (-32), 3) := by decide +kernel
theorem dX1_takePieces_76 : decode cX1_takePieces 76 = .ok (.iload 5, 2) := by decide +kernel
theorem dX1_takePieces_78 : decode cX1_takePieces 78 = .ok (.ifCond .lt 35, 3) := by decide +kernel
theorem dX1_takePieces_81 : decode cX1_takePieces 81 = .ok (.iload 4, 2) := by decide +kernel
theorem dX1_takePieces_83 : decode cX1_takePieces 83 = .ok (.iload_n 1, 1) := by decide +kernel
theorem dX1_takePieces_84 : decode cX1_takePieces 84 = .ok (.iload_n 2, 1) := by decide +kernel
theorem dX1_takePieces_85 : decode cX1_takePieces 85 = .ok (.isub, 1) := by decide +kernel
theorem dX1_takePieces_86 : decode cX1_takePieces 86 = .ok (.if_icmp .ge 8, 3) := by decide +kernel
theorem dX1_takePieces_89 : decode cX1_takePieces 89 = .ok (.iload 4, 2) := by decide +kernel
theorem dX1_takePieces_91 : decode cX1_takePieces 91 = .ok (.goto 6, 3) := by decide +kernel
theorem dX1_takePieces_94 : decode cX1_takePieces 94 = .ok (.iload_n 1, 1) := by decide +kernel
theorem dX1_takePieces_95 : decode cX1_takePieces 95 = .ok (.iload_n 2, 1) := by decide +kernel
theorem dX1_takePieces_96 : decode cX1_takePieces 96 = .ok (.isub, 1) := by decide +kernel
theorem dX1_takePieces_97 : decode cX1_takePieces 97 = .ok (.istore 6, 2) := by decide +kernel
theorem dX1_takePieces_99 : decode cX1_takePieces 99 = .ok (.aload_n 0, 1) := by decide +kernel
theorem dX1_takePieces_100 : decode cX1_takePieces 100 = .ok (.iload 5, 2) := by decide +kernel
theorem dX1_takePieces_102 : decode cX1_takePieces 102 = .ok (.iload 6, 2) := by decide +kernel
theorem dX1_takePieces_104 : decode cX1_takePieces 104 = .ok (.iconst 1, 1) := by decide +kernel
theorem dX1_takePieces_105 : decode cX1_takePieces 105 = .ok (.invokevirtual 27, 3) := by decide +kernel
theorem dX1_takePieces_108 : decode cX1_takePieces 108 = .ok (.iload_n 2, 1) := by decide +kernel
theorem dX1_takePieces_109 : decode cX1_takePieces 109 = .ok (.iload 6, 2) := by decide +kernel
theorem dX1_takePieces_111 : decode cX1_takePieces 111 = .ok (.iadd, 1) := by decide +kernel
theorem dX1_takePieces_112 : decode cX1_takePieces 112 = .ok (.istore_n 2, 1) := by decide +kernel
theorem dX1_takePieces_113 : decode cX1_takePieces 113 = .ok (.iinc 3 1, 3) := by decide +kernel
theorem dX1_takePieces_116 : decode cX1_takePieces 116 = .ok (.goto (-101), 3) := by decide +kernel
theorem dX1_takePieces_119 : decode cX1_takePieces 119 = .ok (.iload_n 2, 1) := by decide +kernel
theorem dX1_takePieces_120 : decode cX1_takePieces 120 = .ok (.ireturn, 1) := by decide +kernel
abbrev cX1_largest : ByteArray := prog_3_method_18_code
def yX1_largest : MethodName := ⟨RX1, "largest", "()I"⟩
theorem dX1_largest_0 : decode cX1_largest 0 = .ok (.iconst 0, 1) := by decide +kernel
theorem dX1_largest_1 : decode cX1_largest 1 = .ok (.istore_n 1, 1) := by decide +kernel
theorem dX1_largest_2 : decode cX1_largest 2 = .ok (.iconst 0, 1) := by decide +kernel
theorem dX1_largest_3 : decode cX1_largest 3 = .ok (.istore_n 2, 1) := by decide +kernel
theorem dX1_largest_4 : decode cX1_largest 4 = .ok (.iload_n 2, 1) := by decide +kernel
theorem dX1_largest_5 : decode cX1_largest 5 = .ok (.sipush 256, 3) := by decide +kernel
theorem dX1_largest_8 : decode cX1_largest 8 = .ok (.if_icmp .ge 26, 3) := by decide +kernel
theorem dX1_largest_11 : decode cX1_largest 11 = .ok (.aload_n 0, 1) := by decide +kernel
theorem dX1_largest_12 : decode cX1_largest 12 = .ok (.iload_n 2, 1) := by decide +kernel
theorem dX1_largest_13 : decode cX1_largest 13 = .ok (.invokevirtual 23, 3) := by decide +kernel
theorem dX1_largest_16 : decode cX1_largest 16 = .ok (.istore_n 3, 1) := by decide +kernel
theorem dX1_largest_17 : decode cX1_largest 17 = .ok (.iload_n 3, 1) := by decide +kernel
theorem dX1_largest_18 : decode cX1_largest 18 = .ok (.iload_n 1, 1) := by decide +kernel
theorem dX1_largest_19 : decode cX1_largest 19 = .ok (.if_icmp .le 7, 3) := by decide +kernel
theorem dX1_largest_22 : decode cX1_largest 22 = .ok (.iload_n 3, 1) := by decide +kernel
theorem dX1_largest_23 : decode cX1_largest 23 = .ok (.goto 4, 3) := by decide +kernel
theorem dX1_largest_26 : decode cX1_largest 26 = .ok (.iload_n 1, 1) := by decide +kernel
theorem dX1_largest_27 : decode cX1_largest 27 = .ok (.istore_n 1, 1) := by decide +kernel
theorem dX1_largest_28 : decode cX1_largest 28 = .ok (.iinc 2 1, 3) := by decide +kernel
theorem dX1_largest_31 : decode cX1_largest 31 = .ok (.goto (-27), 3) := by decide +kernel
theorem dX1_largest_34 : decode cX1_largest 34 = .ok (.iload_n 1, 1) := by decide +kernel
theorem dX1_largest_35 : decode cX1_largest 35 = .ok (.ireturn, 1) := by decide +kernel
abbrev cX1_clear : ByteArray := prog_3_method_14_code
def yX1_clear : MethodName := ⟨RX1, "clear", "()V"⟩
theorem dX1_clear_0 : decode cX1_clear 0 = .ok (.aload_n 0, 1) := by decide +kernel
theorem dX1_clear_1 : decode cX1_clear 1 = .ok (.iconst 0, 1) := by decide +kernel
theorem dX1_clear_2 : decode cX1_clear 2 = .ok (.sipush 256, 3) := by decide +kernel
theorem dX1_clear_5 : decode cX1_clear 5 = .ok (.iconst 0, 1) := by decide +kernel
theorem dX1_clear_6 : decode cX1_clear 6 = .ok (.invokevirtual 27, 3) := by decide +kernel
theorem dX1_clear_9 : decode cX1_clear 9 = .ok (.return_, 1) := by decide +kernel
abbrev cX1_free : ByteArray := prog_3_method_15_code
def yX1_free : MethodName := ⟨RX1, "free", "(I)Z"⟩
theorem dX1_free_0 : decode cX1_free 0 = .ok (.aload_n 0, 1) := by decide +kernel
theorem dX1_free_1 : decode cX1_free 1 = .ok (.iload_n 1, 1) := by decide +kernel
theorem dX1_free_2 : decode cX1_free 2 = .ok (.invokevirtual 13, 3) := by decide +kernel
theorem dX1_free_5 : decode cX1_free 5 = .ok (.ifCond .ne 16, 3) := by decide +kernel
theorem dX1_free_8 : decode cX1_free 8 = .ok (.aload_n 0, 1) := by decide +kernel
theorem dX1_free_9 : decode cX1_free 9 = .ok (.getfield 7, 3) := by decide +kernel
theorem dX1_free_12 : decode cX1_free 12 = .ok (.iload_n 1, 1) := by decide +kernel
theorem dX1_free_13 : decode cX1_free 13 = .ok (.baload, 1) := by decide +kernel
theorem dX1_free_14 : decode cX1_free 14 = .ok (.ifCond .ne 7, 3) := by decide +kernel
theorem dX1_free_17 : decode cX1_free 17 = .ok (.iconst 1, 1) := by decide +kernel
theorem dX1_free_18 : decode cX1_free 18 = .ok (.goto 4, 3) := by decide +kernel
theorem dX1_free_21 : decode cX1_free 21 = .ok (.iconst 0, 1) := by decide +kernel
theorem dX1_free_22 : decode cX1_free 22 = .ok (.ireturn, 1) := by decide +kernel
abbrev cX1_freeBlocks : ByteArray := prog_3_method_16_code
def yX1_freeBlocks : MethodName := ⟨RX1, "freeBlocks", "()I"⟩
theorem dX1_freeBlocks_0 : decode cX1_freeBlocks 0 = .ok (.iconst 0, 1) := by decide +kernel
theorem dX1_freeBlocks_1 : decode cX1_freeBlocks 1 = .ok (.istore_n 1, 1) := by decide +kernel
theorem dX1_freeBlocks_2 : decode cX1_freeBlocks 2 = .ok (.iconst 0, 1) := by decide +kernel
theorem dX1_freeBlocks_3 : decode cX1_freeBlocks 3 = .ok (.istore_n 2, 1) := by decide +kernel
theorem dX1_freeBlocks_4 : decode cX1_freeBlocks 4 = .ok (.iload_n 2, 1) := by decide +kernel
theorem dX1_freeBlocks_5 : decode cX1_freeBlocks 5 = .ok (.sipush 256, 3) := by decide +kernel
theorem dX1_freeBlocks_8 : decode cX1_freeBlocks 8 = .ok (.if_icmp .ge 21, 3) := by decide +kernel
theorem dX1_freeBlocks_11 : decode cX1_freeBlocks 11 = .ok (.aload_n 0, 1) := by decide +kernel
theorem dX1_freeBlocks_12 : decode cX1_freeBlocks 12 = .ok (.getfield 7, 3) := by decide +kernel
theorem dX1_freeBlocks_15 : decode cX1_freeBlocks 15 = .ok (.iload_n 2, 1) := by decide +kernel
theorem dX1_freeBlocks_16 : decode cX1_freeBlocks 16 = .ok (.baload, 1) := by decide +kernel
theorem dX1_freeBlocks_17 : decode cX1_freeBlocks 17 = .ok (.ifCond .ne 6, 3) := by decide +kernel
theorem dX1_freeBlocks_20 : decode cX1_freeBlocks 20 = .ok (.iinc 1 1, 3) := by decide +kernel
theorem dX1_freeBlocks_23 : decode cX1_freeBlocks 23 = .ok (.iinc 2 1, 3) := by decide +kernel
theorem dX1_freeBlocks_26 : decode cX1_freeBlocks 26 = .ok (.goto (-22), 3) := by decide +kernel
theorem dX1_freeBlocks_29 : decode cX1_freeBlocks 29 = .ok (.iload_n 1, 1) := by decide +kernel
theorem dX1_freeBlocks_30 : decode cX1_freeBlocks 30 = .ok (.ireturn, 1) := by decide +kernel
abbrev cX1_next : ByteArray := prog_3_method_19_code
def yX1_next : MethodName := ⟨RX1, "next", "(I)I"⟩
theorem dX1_next_0 : decode cX1_next 0 = .ok (.aload_n 0, 1) := by decide +kernel
theorem dX1_next_1 : decode cX1_next 1 = .ok (.iload_n 1, 1) := by decide +kernel
theorem dX1_next_2 : decode cX1_next 2 = .ok (.invokevirtual 13, 3) := by decide +kernel
theorem dX1_next_5 : decode cX1_next 5 = .ok (.ifCond .eq 5, 3) := by decide +kernel
theorem dX1_next_8 : decode cX1_next 8 = .ok (.iconst (-1), 1) := by decide +kernel
theorem dX1_next_9 : decode cX1_next 9 = .ok (.ireturn, 1) := by decide +kernel
theorem dX1_next_10 : decode cX1_next 10 = .ok (.iload_n 1, 1) := by decide +kernel
theorem dX1_next_11 : decode cX1_next 11 = .ok (.istore_n 2, 1) := by decide +kernel
theorem dX1_next_12 : decode cX1_next 12 = .ok (.iload_n 2, 1) := by decide +kernel
theorem dX1_next_13 : decode cX1_next 13 = .ok (.sipush 256, 3) := by decide +kernel
theorem dX1_next_16 : decode cX1_next 16 = .ok (.if_icmp .ge 19, 3) := by decide +kernel
theorem dX1_next_19 : decode cX1_next 19 = .ok (.aload_n 0, 1) := by decide +kernel
theorem dX1_next_20 : decode cX1_next 20 = .ok (.iload_n 2, 1) := by decide +kernel
theorem dX1_next_21 : decode cX1_next 21 = .ok (.invokevirtual 20, 3) := by decide +kernel
theorem dX1_next_24 : decode cX1_next 24 = .ok (.ifCond .eq 5, 3) := by decide +kernel
theorem dX1_next_27 : decode cX1_next 27 = .ok (.iload_n 2, 1) := by decide +kernel
theorem dX1_next_28 : decode cX1_next 28 = .ok (.ireturn, 1) := by decide +kernel
theorem dX1_next_29 : decode cX1_next 29 = .ok (.iinc 2 1, 3) := by decide +kernel
theorem dX1_next_32 : decode cX1_next 32 = .ok (.goto (-20), 3) := by decide +kernel
theorem dX1_next_35 : decode cX1_next 35 = .ok (.bipush (-6), 2) := by decide +kernel
theorem dX1_next_37 : decode cX1_next 37 = .ok (.ireturn, 1) := by decide +kernel
abbrev cX1_bySize : ByteArray := prog_3_method_21_code
def yX1_bySize : MethodName := ⟨RX1, "bySize", "(I)I"⟩
theorem dX1_bySize_0 : decode cX1_bySize 0 = .ok (.iconst 0, 1) := by decide +kernel
theorem dX1_bySize_1 : decode cX1_bySize 1 = .ok (.istore_n 2, 1) := by decide +kernel
theorem dX1_bySize_2 : decode cX1_bySize 2 = .ok (.iconst 1, 1) := by decide +kernel
theorem dX1_bySize_3 : decode cX1_bySize 3 = .ok (.istore_n 3, 1) := by decide +kernel
theorem dX1_bySize_4 : decode cX1_bySize 4 = .ok (.iload_n 3, 1) := by decide +kernel
theorem dX1_bySize_5 : decode cX1_bySize 5 = .ok (.sipush 257, 3) := by decide +kernel
theorem dX1_bySize_8 : decode cX1_bySize 8 = .ok (.if_icmp .ge 56, 3) := by decide +kernel
theorem dX1_bySize_11 : decode cX1_bySize 11 = .ok (.iconst 0, 1) := by decide +kernel
theorem dX1_bySize_12 : decode cX1_bySize 12 = .ok (.istore 4, 2) := by decide +kernel
theorem dX1_bySize_14 : decode cX1_bySize 14 = .ok (.iload 4, 2) := by decide +kernel
theorem dX1_bySize_16 : decode cX1_bySize 16 = .ok (.sipush 256, 3) := by decide +kernel
theorem dX1_bySize_19 : decode cX1_bySize 19 = .ok (.if_icmp .ge 39, 3) := by decide +kernel
theorem dX1_bySize_22 : decode cX1_bySize 22 = .ok (.aload_n 0, 1) := by decide +kernel
theorem dX1_bySize_23 : decode cX1_bySize 23 = .ok (.iload 4, 2) := by decide +kernel
theorem dX1_bySize_25 : decode cX1_bySize 25 = .ok (.invokevirtual 20, 3) := by decide +kernel
theorem dX1_bySize_28 : decode cX1_bySize 28 = .ok (.ifCond .eq 24, 3) := by decide +kernel
theorem dX1_bySize_31 : decode cX1_bySize 31 = .ok (.aload_n 0, 1) := by decide +kernel
theorem dX1_bySize_32 : decode cX1_bySize 32 = .ok (.iload 4, 2) := by decide +kernel
theorem dX1_bySize_34 : decode cX1_bySize 34 = .ok (.invokevirtual 23, 3) := by decide +kernel
theorem dX1_bySize_37 : decode cX1_bySize 37 = .ok (.iload_n 3, 1) := by decide +kernel
theorem dX1_bySize_38 : decode cX1_bySize 38 = .ok (.if_icmp .ne 14, 3) := by decide +kernel
theorem dX1_bySize_41 : decode cX1_bySize 41 = .ok (.iload_n 2, 1) := by decide +kernel
theorem dX1_bySize_42 : decode cX1_bySize 42 = .ok (.iload_n 1, 1) := by decide +kernel
theorem dX1_bySize_43 : decode cX1_bySize 43 = .ok (.if_icmp .ne 6, 3) := by decide +kernel
theorem dX1_bySize_46 : decode cX1_bySize 46 = .ok (.iload 4, 2) := by decide +kernel
theorem dX1_bySize_48 : decode cX1_bySize 48 = .ok (.ireturn, 1) := by decide +kernel
theorem dX1_bySize_49 : decode cX1_bySize 49 = .ok (.iinc 2 1, 3) := by decide +kernel
theorem dX1_bySize_52 : decode cX1_bySize 52 = .ok (.iinc 4 1, 3) := by decide +kernel
theorem dX1_bySize_55 : decode cX1_bySize 55 = .ok (.goto (-41), 3) := by decide +kernel
theorem dX1_bySize_58 : decode cX1_bySize 58 = .ok (.iinc 3 1, 3) := by decide +kernel
theorem dX1_bySize_61 : decode cX1_bySize 61 = .ok (.goto (-57), 3) := by decide +kernel
theorem dX1_bySize_64 : decode cX1_bySize 64 = .ok (.bipush (-6), 2) := by decide +kernel
theorem dX1_bySize_66 : decode cX1_bySize 66 = .ok (.ireturn, 1) := by decide +kernel
theorem q16 : (Jvm.Cond.initialized "ExtentIndexModel") ∈ lw_all := lw_g (lw_at lw_m0 2 rfl) rfl
theorem q137 : (Jvm.Cond.instantiable "ExtentIndexModel" (1 : Nat)) ∈ lw_all := lw_g (lw_at lw_m0 123 rfl) rfl
theorem q139 : (Jvm.Cond.instanceMethod ({ cls := "ExtentIndexModel", name := "<init>", desc := "()V" } : Jvm.MethodName)) ∈ lw_all := lw_g (lw_at lw_m0 125 rfl) rfl
theorem q140 : (Jvm.Cond.code ({ cls := "ExtentIndexModel", name := "<init>", desc := "()V" } : Jvm.MethodName) prog_3_method_1_code (1 : Nat) (Option.none : Option Jvm.ClassFile.FieldType)) ∈ lw_all := lw_g (lw_at lw_m0 126 rfl) rfl
theorem q141 : (Jvm.Cond.methodLink "ExtentIndexModel" (1 : Nat) ({ cls := "java/lang/Object", name := "<init>", desc := "()V" } : Jvm.MethodName)) ∈ lw_all := lw_g (lw_at lw_m0 127 rfl) rfl
theorem q142 : (Jvm.Cond.fieldLink "ExtentIndexModel" (7 : Nat) "ExtentIndexModel" "taken" "[Z") ∈ lw_all := lw_g (lw_at lw_m0 128 rfl) rfl
theorem q143 : (Jvm.Cond.laysFinal "ExtentIndexModel" "ExtentIndexModel" "taken" "[Z") ∈ lw_all := lw_g (lw_at lw_m0 129 rfl) rfl
theorem q144 : (Jvm.Cond.soleField "ExtentIndexModel" "taken") ∈ lw_all := lw_g (lw_at lw_m0 130 rfl) rfl
theorem q145 : (Jvm.Cond.superclass "ExtentIndexModel" "java/lang/Object") ∈ lw_all := lw_g (lw_at lw_m0 131 rfl) rfl
theorem q148 : (Jvm.Cond.instanceMethod ({ cls := "ExtentIndexModel", name := "take", desc := "(I)I" } : Jvm.MethodName)) ∈ lw_all := lw_g (lw_at lw_m0 134 rfl) rfl
theorem q149 : (Jvm.Cond.selects "ExtentIndexModel" ({ cls := "ExtentIndexModel", name := "take", desc := "(I)I" } : Jvm.MethodName) ({ cls := "ExtentIndexModel", name := "take", desc := "(I)I" } : Jvm.MethodName)) ∈ lw_all := lw_g (lw_at lw_m0 135 rfl) rfl
theorem q150 : (Jvm.Cond.code ({ cls := "ExtentIndexModel", name := "take", desc := "(I)I" } : Jvm.MethodName) prog_3_method_7_code (6 : Nat) (Option.some Jvm.ClassFile.FieldType.int)) ∈ lw_all := lw_g (lw_at lw_m0 136 rfl) rfl
theorem q151 : (Jvm.Cond.methodLink "ExtentIndexModel" (17 : Nat) ({ cls := "ExtentIndexModel", name := "badSize", desc := "(I)Z" } : Jvm.MethodName)) ∈ lw_all := lw_g (lw_at lw_m0 137 rfl) rfl
theorem q152 : (Jvm.Cond.privateMethod ({ cls := "ExtentIndexModel", name := "badSize", desc := "(I)Z" } : Jvm.MethodName)) ∈ lw_tbl := lw_at lw_m0 138 rfl
theorem q153 : (Jvm.Cond.instanceMethod ({ cls := "ExtentIndexModel", name := "badSize", desc := "(I)Z" } : Jvm.MethodName)) ∈ lw_all := lw_g (lw_at lw_m0 139 rfl) rfl
theorem q154 : (Jvm.Cond.code ({ cls := "ExtentIndexModel", name := "badSize", desc := "(I)Z" } : Jvm.MethodName) prog_3_method_3_code (2 : Nat) (Option.some Jvm.ClassFile.FieldType.boolean)) ∈ lw_all := lw_g (lw_at lw_m0 140 rfl) rfl
theorem q155 : (Jvm.Cond.methodLink "ExtentIndexModel" (20 : Nat) ({ cls := "ExtentIndexModel", name := "begins", desc := "(I)Z" } : Jvm.MethodName)) ∈ lw_all := lw_g (lw_at lw_m0 141 rfl) rfl
theorem q156 : (Jvm.Cond.privateMethod ({ cls := "ExtentIndexModel", name := "begins", desc := "(I)Z" } : Jvm.MethodName)) ∈ lw_tbl := lw_at lw_m0 142 rfl
theorem q157 : (Jvm.Cond.instanceMethod ({ cls := "ExtentIndexModel", name := "begins", desc := "(I)Z" } : Jvm.MethodName)) ∈ lw_all := lw_g (lw_at lw_m0 143 rfl) rfl
theorem q158 : (Jvm.Cond.code ({ cls := "ExtentIndexModel", name := "begins", desc := "(I)Z" } : Jvm.MethodName) prog_3_method_4_code (2 : Nat) (Option.some Jvm.ClassFile.FieldType.boolean)) ∈ lw_all := lw_g (lw_at lw_m0 144 rfl) rfl
theorem q159 : (Jvm.Cond.methodLink "ExtentIndexModel" (13 : Nat) ({ cls := "ExtentIndexModel", name := "badBlock", desc := "(I)Z" } : Jvm.MethodName)) ∈ lw_all := lw_g (lw_at lw_m0 145 rfl) rfl
theorem q160 : (Jvm.Cond.privateMethod ({ cls := "ExtentIndexModel", name := "badBlock", desc := "(I)Z" } : Jvm.MethodName)) ∈ lw_tbl := lw_at lw_m0 146 rfl
theorem q161 : (Jvm.Cond.instanceMethod ({ cls := "ExtentIndexModel", name := "badBlock", desc := "(I)Z" } : Jvm.MethodName)) ∈ lw_all := lw_g (lw_at lw_m0 147 rfl) rfl
theorem q162 : (Jvm.Cond.code ({ cls := "ExtentIndexModel", name := "badBlock", desc := "(I)Z" } : Jvm.MethodName) prog_3_method_2_code (2 : Nat) (Option.some Jvm.ClassFile.FieldType.boolean)) ∈ lw_all := lw_g (lw_at lw_m0 148 rfl) rfl
theorem q163 : (Jvm.Cond.methodLink "ExtentIndexModel" (23 : Nat) ({ cls := "ExtentIndexModel", name := "run", desc := "(I)I" } : Jvm.MethodName)) ∈ lw_all := lw_g (lw_at lw_m0 149 rfl) rfl
theorem q164 : (Jvm.Cond.privateMethod ({ cls := "ExtentIndexModel", name := "run", desc := "(I)I" } : Jvm.MethodName)) ∈ lw_tbl := lw_at lw_m0 150 rfl
theorem q165 : (Jvm.Cond.instanceMethod ({ cls := "ExtentIndexModel", name := "run", desc := "(I)I" } : Jvm.MethodName)) ∈ lw_all := lw_g (lw_at lw_m0 151 rfl) rfl
theorem q166 : (Jvm.Cond.code ({ cls := "ExtentIndexModel", name := "run", desc := "(I)I" } : Jvm.MethodName) prog_3_method_5_code (4 : Nat) (Option.some Jvm.ClassFile.FieldType.int)) ∈ lw_all := lw_g (lw_at lw_m0 152 rfl) rfl
theorem q167 : (Jvm.Cond.methodLink "ExtentIndexModel" (27 : Nat) ({ cls := "ExtentIndexModel", name := "mark", desc := "(IIZ)V" } : Jvm.MethodName)) ∈ lw_all := lw_g (lw_at lw_m0 153 rfl) rfl
theorem q168 : (Jvm.Cond.privateMethod ({ cls := "ExtentIndexModel", name := "mark", desc := "(IIZ)V" } : Jvm.MethodName)) ∈ lw_tbl := lw_at lw_m0 154 rfl
theorem q169 : (Jvm.Cond.instanceMethod ({ cls := "ExtentIndexModel", name := "mark", desc := "(IIZ)V" } : Jvm.MethodName)) ∈ lw_all := lw_g (lw_at lw_m0 155 rfl) rfl
theorem q170 : (Jvm.Cond.code ({ cls := "ExtentIndexModel", name := "mark", desc := "(IIZ)V" } : Jvm.MethodName) prog_3_method_6_code (5 : Nat) (Option.none : Option Jvm.ClassFile.FieldType)) ∈ lw_all := lw_g (lw_at lw_m0 156 rfl) rfl
theorem q172 : (Jvm.Cond.instanceMethod ({ cls := "ExtentIndexModel", name := "takeNear", desc := "(II)I" } : Jvm.MethodName)) ∈ lw_all := lw_g (lw_at lw_m0 158 rfl) rfl
theorem q173 : (Jvm.Cond.selects "ExtentIndexModel" ({ cls := "ExtentIndexModel", name := "takeNear", desc := "(II)I" } : Jvm.MethodName) ({ cls := "ExtentIndexModel", name := "takeNear", desc := "(II)I" } : Jvm.MethodName)) ∈ lw_all := lw_g (lw_at lw_m0 159 rfl) rfl
theorem q174 : (Jvm.Cond.code ({ cls := "ExtentIndexModel", name := "takeNear", desc := "(II)I" } : Jvm.MethodName) prog_3_method_9_code (5 : Nat) (Option.some Jvm.ClassFile.FieldType.int)) ∈ lw_all := lw_g (lw_at lw_m0 160 rfl) rfl
theorem q175 : (Jvm.Cond.methodLink "ExtentIndexModel" (31 : Nat) ({ cls := "ExtentIndexModel", name := "away", desc := "(II)I" } : Jvm.MethodName)) ∈ lw_all := lw_g (lw_at lw_m0 161 rfl) rfl
theorem q176 : (Jvm.Cond.privateMethod ({ cls := "ExtentIndexModel", name := "away", desc := "(II)I" } : Jvm.MethodName)) ∈ lw_tbl := lw_at lw_m0 162 rfl
theorem q177 : (Jvm.Cond.instanceMethod ({ cls := "ExtentIndexModel", name := "away", desc := "(II)I" } : Jvm.MethodName)) ∈ lw_all := lw_g (lw_at lw_m0 163 rfl) rfl
theorem q178 : (Jvm.Cond.code ({ cls := "ExtentIndexModel", name := "away", desc := "(II)I" } : Jvm.MethodName) prog_3_method_8_code (3 : Nat) (Option.some Jvm.ClassFile.FieldType.int)) ∈ lw_all := lw_g (lw_at lw_m0 164 rfl) rfl
theorem q180 : (Jvm.Cond.instanceMethod ({ cls := "ExtentIndexModel", name := "takeAt", desc := "(II)I" } : Jvm.MethodName)) ∈ lw_all := lw_g (lw_at lw_m0 166 rfl) rfl
theorem q181 : (Jvm.Cond.selects "ExtentIndexModel" ({ cls := "ExtentIndexModel", name := "takeAt", desc := "(II)I" } : Jvm.MethodName) ({ cls := "ExtentIndexModel", name := "takeAt", desc := "(II)I" } : Jvm.MethodName)) ∈ lw_all := lw_g (lw_at lw_m0 167 rfl) rfl
theorem q182 : (Jvm.Cond.code ({ cls := "ExtentIndexModel", name := "takeAt", desc := "(II)I" } : Jvm.MethodName) prog_3_method_11_code (4 : Nat) (Option.some Jvm.ClassFile.FieldType.int)) ∈ lw_all := lw_g (lw_at lw_m0 168 rfl) rfl
theorem q183 : (Jvm.Cond.methodLink "ExtentIndexModel" (35 : Nat) ({ cls := "ExtentIndexModel", name := "refusal", desc := "(II)I" } : Jvm.MethodName)) ∈ lw_all := lw_g (lw_at lw_m0 169 rfl) rfl
theorem q184 : (Jvm.Cond.privateMethod ({ cls := "ExtentIndexModel", name := "refusal", desc := "(II)I" } : Jvm.MethodName)) ∈ lw_tbl := lw_at lw_m0 170 rfl
theorem q185 : (Jvm.Cond.instanceMethod ({ cls := "ExtentIndexModel", name := "refusal", desc := "(II)I" } : Jvm.MethodName)) ∈ lw_all := lw_g (lw_at lw_m0 171 rfl) rfl
theorem q186 : (Jvm.Cond.code ({ cls := "ExtentIndexModel", name := "refusal", desc := "(II)I" } : Jvm.MethodName) prog_3_method_10_code (3 : Nat) (Option.some Jvm.ClassFile.FieldType.int)) ∈ lw_all := lw_g (lw_at lw_m0 172 rfl) rfl
theorem q187 : (Jvm.Cond.methodLink "ExtentIndexModel" (38 : Nat) ({ cls := "ExtentIndexModel", name := "extents", desc := "()I" } : Jvm.MethodName)) ∈ lw_all := lw_g (lw_at lw_m0 173 rfl) rfl
theorem q188 : (Jvm.Cond.instanceMethod ({ cls := "ExtentIndexModel", name := "extents", desc := "()I" } : Jvm.MethodName)) ∈ lw_all := lw_g (lw_at lw_m0 174 rfl) rfl
theorem q189 : (Jvm.Cond.selects "ExtentIndexModel" ({ cls := "ExtentIndexModel", name := "extents", desc := "()I" } : Jvm.MethodName) ({ cls := "ExtentIndexModel", name := "extents", desc := "()I" } : Jvm.MethodName)) ∈ lw_all := lw_g (lw_at lw_m0 175 rfl) rfl
theorem q190 : (Jvm.Cond.code ({ cls := "ExtentIndexModel", name := "extents", desc := "()I" } : Jvm.MethodName) prog_3_method_17_code (1 : Nat) (Option.some Jvm.ClassFile.FieldType.int)) ∈ lw_all := lw_g (lw_at lw_m0 176 rfl) rfl
theorem q191 : (Jvm.Cond.methodLink "ExtentIndexModel" (48 : Nat) ({ cls := "ExtentIndexModel", name := "atLeast", desc := "(I)I" } : Jvm.MethodName)) ∈ lw_all := lw_g (lw_at lw_m0 177 rfl) rfl
theorem q192 : (Jvm.Cond.instanceMethod ({ cls := "ExtentIndexModel", name := "atLeast", desc := "(I)I" } : Jvm.MethodName)) ∈ lw_all := lw_g (lw_at lw_m0 178 rfl) rfl
theorem q193 : (Jvm.Cond.selects "ExtentIndexModel" ({ cls := "ExtentIndexModel", name := "atLeast", desc := "(I)I" } : Jvm.MethodName) ({ cls := "ExtentIndexModel", name := "atLeast", desc := "(I)I" } : Jvm.MethodName)) ∈ lw_all := lw_g (lw_at lw_m0 179 rfl) rfl
theorem q194 : (Jvm.Cond.code ({ cls := "ExtentIndexModel", name := "atLeast", desc := "(I)I" } : Jvm.MethodName) prog_3_method_22_code (4 : Nat) (Option.some Jvm.ClassFile.FieldType.int)) ∈ lw_all := lw_g (lw_at lw_m0 180 rfl) rfl
theorem q196 : (Jvm.Cond.instanceMethod ({ cls := "ExtentIndexModel", name := "give", desc := "(II)I" } : Jvm.MethodName)) ∈ lw_all := lw_g (lw_at lw_m0 182 rfl) rfl
theorem q197 : (Jvm.Cond.selects "ExtentIndexModel" ({ cls := "ExtentIndexModel", name := "give", desc := "(II)I" } : Jvm.MethodName) ({ cls := "ExtentIndexModel", name := "give", desc := "(II)I" } : Jvm.MethodName)) ∈ lw_all := lw_g (lw_at lw_m0 183 rfl) rfl
theorem q198 : (Jvm.Cond.code ({ cls := "ExtentIndexModel", name := "give", desc := "(II)I" } : Jvm.MethodName) prog_3_method_12_code (5 : Nat) (Option.some Jvm.ClassFile.FieldType.int)) ∈ lw_all := lw_g (lw_at lw_m0 184 rfl) rfl
theorem q199 : (Jvm.Cond.methodLink "ExtentIndexModel" (42 : Nat) ({ cls := "ExtentIndexModel", name := "sizeAt", desc := "(I)I" } : Jvm.MethodName)) ∈ lw_all := lw_g (lw_at lw_m0 185 rfl) rfl
theorem q200 : (Jvm.Cond.instanceMethod ({ cls := "ExtentIndexModel", name := "sizeAt", desc := "(I)I" } : Jvm.MethodName)) ∈ lw_all := lw_g (lw_at lw_m0 186 rfl) rfl
theorem q201 : (Jvm.Cond.selects "ExtentIndexModel" ({ cls := "ExtentIndexModel", name := "sizeAt", desc := "(I)I" } : Jvm.MethodName) ({ cls := "ExtentIndexModel", name := "sizeAt", desc := "(I)I" } : Jvm.MethodName)) ∈ lw_all := lw_g (lw_at lw_m0 187 rfl) rfl
theorem q202 : (Jvm.Cond.code ({ cls := "ExtentIndexModel", name := "sizeAt", desc := "(I)I" } : Jvm.MethodName) prog_3_method_20_code (4 : Nat) (Option.some Jvm.ClassFile.FieldType.int)) ∈ lw_all := lw_g (lw_at lw_m0 188 rfl) rfl
theorem q204 : (Jvm.Cond.instanceMethod ({ cls := "ExtentIndexModel", name := "takePieces", desc := "(I)I" } : Jvm.MethodName)) ∈ lw_all := lw_g (lw_at lw_m0 190 rfl) rfl
theorem q205 : (Jvm.Cond.selects "ExtentIndexModel" ({ cls := "ExtentIndexModel", name := "takePieces", desc := "(I)I" } : Jvm.MethodName) ({ cls := "ExtentIndexModel", name := "takePieces", desc := "(I)I" } : Jvm.MethodName)) ∈ lw_all := lw_g (lw_at lw_m0 191 rfl) rfl
theorem q206 : (Jvm.Cond.code ({ cls := "ExtentIndexModel", name := "takePieces", desc := "(I)I" } : Jvm.MethodName) prog_3_method_13_code (7 : Nat) (Option.some Jvm.ClassFile.FieldType.int)) ∈ lw_all := lw_g (lw_at lw_m0 192 rfl) rfl
theorem q207 : (Jvm.Cond.methodLink "ExtentIndexModel" (45 : Nat) ({ cls := "ExtentIndexModel", name := "largest", desc := "()I" } : Jvm.MethodName)) ∈ lw_all := lw_g (lw_at lw_m0 193 rfl) rfl
theorem q208 : (Jvm.Cond.instanceMethod ({ cls := "ExtentIndexModel", name := "largest", desc := "()I" } : Jvm.MethodName)) ∈ lw_all := lw_g (lw_at lw_m0 194 rfl) rfl
theorem q209 : (Jvm.Cond.selects "ExtentIndexModel" ({ cls := "ExtentIndexModel", name := "largest", desc := "()I" } : Jvm.MethodName) ({ cls := "ExtentIndexModel", name := "largest", desc := "()I" } : Jvm.MethodName)) ∈ lw_all := lw_g (lw_at lw_m0 195 rfl) rfl
theorem q210 : (Jvm.Cond.code ({ cls := "ExtentIndexModel", name := "largest", desc := "()I" } : Jvm.MethodName) prog_3_method_18_code (4 : Nat) (Option.some Jvm.ClassFile.FieldType.int)) ∈ lw_all := lw_g (lw_at lw_m0 196 rfl) rfl
theorem q212 : (Jvm.Cond.instanceMethod ({ cls := "ExtentIndexModel", name := "clear", desc := "()V" } : Jvm.MethodName)) ∈ lw_all := lw_g (lw_at lw_m0 198 rfl) rfl
theorem q213 : (Jvm.Cond.selects "ExtentIndexModel" ({ cls := "ExtentIndexModel", name := "clear", desc := "()V" } : Jvm.MethodName) ({ cls := "ExtentIndexModel", name := "clear", desc := "()V" } : Jvm.MethodName)) ∈ lw_all := lw_g (lw_at lw_m0 199 rfl) rfl
theorem q214 : (Jvm.Cond.code ({ cls := "ExtentIndexModel", name := "clear", desc := "()V" } : Jvm.MethodName) prog_3_method_14_code (1 : Nat) (Option.none : Option Jvm.ClassFile.FieldType)) ∈ lw_all := lw_g (lw_at lw_m0 200 rfl) rfl
theorem q216 : (Jvm.Cond.instanceMethod ({ cls := "ExtentIndexModel", name := "free", desc := "(I)Z" } : Jvm.MethodName)) ∈ lw_all := lw_g (lw_at lw_m0 202 rfl) rfl
theorem q217 : (Jvm.Cond.selects "ExtentIndexModel" ({ cls := "ExtentIndexModel", name := "free", desc := "(I)Z" } : Jvm.MethodName) ({ cls := "ExtentIndexModel", name := "free", desc := "(I)Z" } : Jvm.MethodName)) ∈ lw_all := lw_g (lw_at lw_m0 203 rfl) rfl
theorem q218 : (Jvm.Cond.code ({ cls := "ExtentIndexModel", name := "free", desc := "(I)Z" } : Jvm.MethodName) prog_3_method_15_code (2 : Nat) (Option.some Jvm.ClassFile.FieldType.boolean)) ∈ lw_all := lw_g (lw_at lw_m0 204 rfl) rfl
theorem q220 : (Jvm.Cond.instanceMethod ({ cls := "ExtentIndexModel", name := "freeBlocks", desc := "()I" } : Jvm.MethodName)) ∈ lw_all := lw_g (lw_at lw_m0 206 rfl) rfl
theorem q221 : (Jvm.Cond.selects "ExtentIndexModel" ({ cls := "ExtentIndexModel", name := "freeBlocks", desc := "()I" } : Jvm.MethodName) ({ cls := "ExtentIndexModel", name := "freeBlocks", desc := "()I" } : Jvm.MethodName)) ∈ lw_all := lw_g (lw_at lw_m0 207 rfl) rfl
theorem q222 : (Jvm.Cond.code ({ cls := "ExtentIndexModel", name := "freeBlocks", desc := "()I" } : Jvm.MethodName) prog_3_method_16_code (3 : Nat) (Option.some Jvm.ClassFile.FieldType.int)) ∈ lw_all := lw_g (lw_at lw_m0 208 rfl) rfl
theorem q226 : (Jvm.Cond.instanceMethod ({ cls := "ExtentIndexModel", name := "next", desc := "(I)I" } : Jvm.MethodName)) ∈ lw_all := lw_g (lw_at lw_m0 212 rfl) rfl
theorem q227 : (Jvm.Cond.selects "ExtentIndexModel" ({ cls := "ExtentIndexModel", name := "next", desc := "(I)I" } : Jvm.MethodName) ({ cls := "ExtentIndexModel", name := "next", desc := "(I)I" } : Jvm.MethodName)) ∈ lw_all := lw_g (lw_at lw_m0 213 rfl) rfl
theorem q228 : (Jvm.Cond.code ({ cls := "ExtentIndexModel", name := "next", desc := "(I)I" } : Jvm.MethodName) prog_3_method_19_code (3 : Nat) (Option.some Jvm.ClassFile.FieldType.int)) ∈ lw_all := lw_g (lw_at lw_m0 214 rfl) rfl
theorem q231 : (Jvm.Cond.instanceMethod ({ cls := "ExtentIndexModel", name := "bySize", desc := "(I)I" } : Jvm.MethodName)) ∈ lw_all := lw_g (lw_at lw_m0 217 rfl) rfl
theorem q232 : (Jvm.Cond.selects "ExtentIndexModel" ({ cls := "ExtentIndexModel", name := "bySize", desc := "(I)I" } : Jvm.MethodName) ({ cls := "ExtentIndexModel", name := "bySize", desc := "(I)I" } : Jvm.MethodName)) ∈ lw_all := lw_g (lw_at lw_m0 218 rfl) rfl
theorem q233 : (Jvm.Cond.code ({ cls := "ExtentIndexModel", name := "bySize", desc := "(I)I" } : Jvm.MethodName) prog_3_method_21_code (5 : Nat) (Option.some Jvm.ClassFile.FieldType.int)) ∈ lw_all := lw_g (lw_at lw_m0 219 rfl) rfl
theorem in_X1 : ∀ w ∈ wsX10, w ∈ lw_all := lw_in wsX10 [143] (by decide +kernel) (by decide +kernel)
end
section
/-! the law's own entry -/
set_option maxRecDepth 100000
abbrev cL_law : ByteArray := code
theorem dL_law_0 : decode cL_law 0 = .ok (.new 7, 3) := by decide +kernel
theorem dL_law_3 : decode cL_law 3 = .ok (.dup, 1) := by decide +kernel
theorem dL_law_4 : decode cL_law 4 = .ok (.invokespecial 9, 3) := by decide +kernel
theorem dL_law_7 : decode cL_law 7 = .ok (.astore_n 1, 1) := by decide +kernel
theorem dL_law_8 : decode cL_law 8 = .ok (.new 10, 3) := by decide +kernel
theorem dL_law_11 : decode cL_law 11 = .ok (.dup, 1) := by decide +kernel
theorem dL_law_12 : decode cL_law 12 = .ok (.invokespecial 12, 3) := by decide +kernel
theorem dL_law_15 : decode cL_law 15 = .ok (.astore_n 2, 1) := by decide +kernel
theorem dL_law_16 : decode cL_law 16 = .ok (.iconst 0, 1) := by decide +kernel
theorem dL_law_17 : decode cL_law 17 = .ok (.istore_n 3, 1) := by decide +kernel
theorem dL_law_18 : decode cL_law 18 = .ok (.iload_n 3, 1) := by decide +kernel
theorem dL_law_19 : decode cL_law 19 = .ok (.aload_n 0, 1) := by decide +kernel
theorem dL_law_20 : decode cL_law 20 = .ok (.arraylength, 1) := by decide +kernel
theorem dL_law_21 : decode cL_law 21 = .ok (.iconst 3, 1) := by decide +kernel
theorem dL_law_22 : decode cL_law 22 = .ok (.isub, 1) := by decide +kernel
theorem dL_law_23 : decode cL_law 23 = .ok (.if_icmp .gt 397, 3) := by decide +kernel
theorem dL_law_26 : decode cL_law 26 = .ok (.aload_n 0, 1) := by decide +kernel
theorem dL_law_27 : decode cL_law 27 = .ok (.iload_n 3, 1) := by decide +kernel
theorem dL_law_28 : decode cL_law 28 = .ok (.iaload, 1) := by decide +kernel
theorem dL_law_29 : decode cL_law 29 = .ok (.bipush 15, 2) := by decide +kernel
theorem dL_law_31 : decode cL_law 31 = .ok (.iand, 1) := by decide +kernel
theorem dL_law_32 : decode cL_law 32 = .ok (.tableswitch 382 0 13 #[72, 95, 128, 161, 194, 217, 228, 251, 264, 277, 290, 313, 336, 359], 72) := by decide +kernel
theorem dL_law_104 : decode cL_law 104 = .ok (.aload_n 1, 1) := by decide +kernel
theorem dL_law_105 : decode cL_law 105 = .ok (.aload_n 0, 1) := by decide +kernel
theorem dL_law_106 : decode cL_law 106 = .ok (.iload_n 3, 1) := by decide +kernel
theorem dL_law_107 : decode cL_law 107 = .ok (.iconst 1, 1) := by decide +kernel
theorem dL_law_108 : decode cL_law 108 = .ok (.iadd, 1) := by decide +kernel
theorem dL_law_109 : decode cL_law 109 = .ok (.iaload, 1) := by decide +kernel
theorem dL_law_110 : decode cL_law 110 = .ok (.invokevirtual 13, 3) := by decide +kernel
theorem dL_law_113 : decode cL_law 113 = .ok (.aload_n 2, 1) := by decide +kernel
theorem dL_law_114 : decode cL_law 114 = .ok (.aload_n 0, 1) := by decide +kernel
theorem dL_law_115 : decode cL_law 115 = .ok (.iload_n 3, 1) := by decide +kernel
theorem dL_law_116 : decode cL_law 116 = .ok (.iconst 1, 1) := by decide +kernel
theorem dL_law_117 : decode cL_law 117 = .ok (.iadd, 1) := by decide +kernel
theorem dL_law_118 : decode cL_law 118 = .ok (.iaload, 1) := by decide +kernel
theorem dL_law_119 : decode cL_law 119 = .ok (.invokevirtual 17, 3) := by decide +kernel
theorem dL_law_122 : decode cL_law 122 = .ok (.if_icmp .eq 292, 3) := by decide +kernel
theorem dL_law_125 : decode cL_law 125 = .ok (.iconst 0, 1) := by decide +kernel
theorem dL_law_126 : decode cL_law 126 = .ok (.ireturn, 1) := by decide +kernel
theorem dL_law_127 : decode cL_law 127 = .ok (.aload_n 1, 1) := by decide +kernel
theorem dL_law_128 : decode cL_law 128 = .ok (.aload_n 0, 1) := by decide +kernel
theorem dL_law_129 : decode cL_law 129 = .ok (.iload_n 3, 1) := by decide +kernel
theorem dL_law_130 : decode cL_law 130 = .ok (.iconst 1, 1) := by decide +kernel
theorem dL_law_131 : decode cL_law 131 = .ok (.iadd, 1) := by decide +kernel
theorem dL_law_132 : decode cL_law 132 = .ok (.iaload, 1) := by decide +kernel
theorem dL_law_133 : decode cL_law 133 = .ok (.aload_n 0, 1) := by decide +kernel
theorem dL_law_134 : decode cL_law 134 = .ok (.iload_n 3, 1) := by decide +kernel
theorem dL_law_135 : decode cL_law 135 = .ok (.iconst 2, 1) := by decide +kernel
theorem dL_law_136 : decode cL_law 136 = .ok (.iadd, 1) := by decide +kernel
theorem dL_law_137 : decode cL_law 137 = .ok (.iaload, 1) := by decide +kernel
theorem dL_law_138 : decode cL_law 138 = .ok (.invokevirtual 18, 3) := by decide +kernel
theorem dL_law_141 : decode cL_law 141 = .ok (.aload_n 2, 1) := by decide +kernel
theorem dL_law_142 : decode cL_law 142 = .ok (.aload_n 0, 1) := by decide +kernel
theorem dL_law_143 : decode cL_law 143 = .ok (.iload_n 3, 1) := by decide +kernel
theorem dL_law_144 : decode cL_law 144 = .ok (.iconst 1, 1) := by decide +kernel
theorem dL_law_145 : decode cL_law 145 = .ok (.iadd, 1) := by decide +kernel
theorem dL_law_146 : decode cL_law 146 = .ok (.iaload, 1) := by decide +kernel
theorem dL_law_147 : decode cL_law 147 = .ok (.aload_n 0, 1) := by decide +kernel
theorem dL_law_148 : decode cL_law 148 = .ok (.iload_n 3, 1) := by decide +kernel
theorem dL_law_149 : decode cL_law 149 = .ok (.iconst 2, 1) := by decide +kernel
theorem dL_law_150 : decode cL_law 150 = .ok (.iadd, 1) := by decide +kernel
theorem dL_law_151 : decode cL_law 151 = .ok (.iaload, 1) := by decide +kernel
theorem dL_law_152 : decode cL_law 152 = .ok (.invokevirtual 22, 3) := by decide +kernel
theorem dL_law_155 : decode cL_law 155 = .ok (.if_icmp .eq 259, 3) := by decide +kernel
theorem dL_law_158 : decode cL_law 158 = .ok (.iconst 0, 1) := by decide +kernel
theorem dL_law_159 : decode cL_law 159 = .ok (.ireturn, 1) := by decide +kernel
theorem dL_law_160 : decode cL_law 160 = .ok (.aload_n 1, 1) := by decide +kernel
theorem dL_law_161 : decode cL_law 161 = .ok (.aload_n 0, 1) := by decide +kernel
theorem dL_law_162 : decode cL_law 162 = .ok (.iload_n 3, 1) := by decide +kernel
theorem dL_law_163 : decode cL_law 163 = .ok (.iconst 1, 1) := by decide +kernel
theorem dL_law_164 : decode cL_law 164 = .ok (.iadd, 1) := by decide +kernel
theorem dL_law_165 : decode cL_law 165 = .ok (.iaload, 1) := by decide +kernel
theorem dL_law_166 : decode cL_law 166 = .ok (.aload_n 0, 1) := by decide +kernel
theorem dL_law_167 : decode cL_law 167 = .ok (.iload_n 3, 1) := by decide +kernel
theorem dL_law_168 : decode cL_law 168 = .ok (.iconst 2, 1) := by decide +kernel
theorem dL_law_169 : decode cL_law 169 = .ok (.iadd, 1) := by decide +kernel
theorem dL_law_170 : decode cL_law 170 = .ok (.iaload, 1) := by decide +kernel
theorem dL_law_171 : decode cL_law 171 = .ok (.invokevirtual 23, 3) := by decide +kernel
theorem dL_law_174 : decode cL_law 174 = .ok (.aload_n 2, 1) := by decide +kernel
theorem dL_law_175 : decode cL_law 175 = .ok (.aload_n 0, 1) := by decide +kernel
theorem dL_law_176 : decode cL_law 176 = .ok (.iload_n 3, 1) := by decide +kernel
theorem dL_law_177 : decode cL_law 177 = .ok (.iconst 1, 1) := by decide +kernel
theorem dL_law_178 : decode cL_law 178 = .ok (.iadd, 1) := by decide +kernel
theorem dL_law_179 : decode cL_law 179 = .ok (.iaload, 1) := by decide +kernel
theorem dL_law_180 : decode cL_law 180 = .ok (.aload_n 0, 1) := by decide +kernel
theorem dL_law_181 : decode cL_law 181 = .ok (.iload_n 3, 1) := by decide +kernel
theorem dL_law_182 : decode cL_law 182 = .ok (.iconst 2, 1) := by decide +kernel
theorem dL_law_183 : decode cL_law 183 = .ok (.iadd, 1) := by decide +kernel
theorem dL_law_184 : decode cL_law 184 = .ok (.iaload, 1) := by decide +kernel
theorem dL_law_185 : decode cL_law 185 = .ok (.invokevirtual 26, 3) := by decide +kernel
theorem dL_law_188 : decode cL_law 188 = .ok (.if_icmp .eq 226, 3) := by decide +kernel
theorem dL_law_191 : decode cL_law 191 = .ok (.iconst 0, 1) := by decide +kernel
theorem dL_law_192 : decode cL_law 192 = .ok (.ireturn, 1) := by decide +kernel
theorem dL_law_193 : decode cL_law 193 = .ok (.aload_n 1, 1) := by decide +kernel
theorem dL_law_194 : decode cL_law 194 = .ok (.aload_n 0, 1) := by decide +kernel
theorem dL_law_195 : decode cL_law 195 = .ok (.iload_n 3, 1) := by decide +kernel
theorem dL_law_196 : decode cL_law 196 = .ok (.iconst 1, 1) := by decide +kernel
theorem dL_law_197 : decode cL_law 197 = .ok (.iadd, 1) := by decide +kernel
theorem dL_law_198 : decode cL_law 198 = .ok (.iaload, 1) := by decide +kernel
theorem dL_law_199 : decode cL_law 199 = .ok (.aload_n 0, 1) := by decide +kernel
theorem dL_law_200 : decode cL_law 200 = .ok (.iload_n 3, 1) := by decide +kernel
theorem dL_law_201 : decode cL_law 201 = .ok (.iconst 2, 1) := by decide +kernel
theorem dL_law_202 : decode cL_law 202 = .ok (.iadd, 1) := by decide +kernel
theorem dL_law_203 : decode cL_law 203 = .ok (.iaload, 1) := by decide +kernel
theorem dL_law_204 : decode cL_law 204 = .ok (.invokevirtual 27, 3) := by decide +kernel
theorem dL_law_207 : decode cL_law 207 = .ok (.aload_n 2, 1) := by decide +kernel
theorem dL_law_208 : decode cL_law 208 = .ok (.aload_n 0, 1) := by decide +kernel
theorem dL_law_209 : decode cL_law 209 = .ok (.iload_n 3, 1) := by decide +kernel
theorem dL_law_210 : decode cL_law 210 = .ok (.iconst 1, 1) := by decide +kernel
theorem dL_law_211 : decode cL_law 211 = .ok (.iadd, 1) := by decide +kernel
theorem dL_law_212 : decode cL_law 212 = .ok (.iaload, 1) := by decide +kernel
theorem dL_law_213 : decode cL_law 213 = .ok (.aload_n 0, 1) := by decide +kernel
theorem dL_law_214 : decode cL_law 214 = .ok (.iload_n 3, 1) := by decide +kernel
theorem dL_law_215 : decode cL_law 215 = .ok (.iconst 2, 1) := by decide +kernel
theorem dL_law_216 : decode cL_law 216 = .ok (.iadd, 1) := by decide +kernel
theorem dL_law_217 : decode cL_law 217 = .ok (.iaload, 1) := by decide +kernel
theorem dL_law_218 : decode cL_law 218 = .ok (.invokevirtual 30, 3) := by decide +kernel
theorem dL_law_221 : decode cL_law 221 = .ok (.if_icmp .eq 193, 3) := by decide +kernel
theorem dL_law_224 : decode cL_law 224 = .ok (.iconst 0, 1) := by decide +kernel
theorem dL_law_225 : decode cL_law 225 = .ok (.ireturn, 1) := by decide +kernel
theorem dL_law_226 : decode cL_law 226 = .ok (.aload_n 1, 1) := by decide +kernel
theorem dL_law_227 : decode cL_law 227 = .ok (.aload_n 0, 1) := by decide +kernel
theorem dL_law_228 : decode cL_law 228 = .ok (.iload_n 3, 1) := by decide +kernel
theorem dL_law_229 : decode cL_law 229 = .ok (.iconst 1, 1) := by decide +kernel
theorem dL_law_230 : decode cL_law 230 = .ok (.iadd, 1) := by decide +kernel
theorem dL_law_231 : decode cL_law 231 = .ok (.iaload, 1) := by decide +kernel
theorem dL_law_232 : decode cL_law 232 = .ok (.invokevirtual 31, 3) := by decide +kernel
theorem dL_law_235 : decode cL_law 235 = .ok (.aload_n 2, 1) := by decide +kernel
theorem dL_law_236 : decode cL_law 236 = .ok (.aload_n 0, 1) := by decide +kernel
theorem dL_law_237 : decode cL_law 237 = .ok (.iload_n 3, 1) := by decide +kernel
theorem dL_law_238 : decode cL_law 238 = .ok (.iconst 1, 1) := by decide +kernel
theorem dL_law_239 : decode cL_law 239 = .ok (.iadd, 1) := by decide +kernel
theorem dL_law_240 : decode cL_law 240 = .ok (.iaload, 1) := by decide +kernel
theorem dL_law_241 : decode cL_law 241 = .ok (.invokevirtual 34, 3) := by decide +kernel
theorem dL_law_244 : decode cL_law 244 = .ok (.if_icmp .eq 170, 3) := by decide +kernel
theorem dL_law_247 : decode cL_law 247 = .ok (.iconst 0, 1) := by decide +kernel
theorem dL_law_248 : decode cL_law 248 = .ok (.ireturn, 1) := by decide +kernel
theorem dL_law_249 : decode cL_law 249 = .ok (.aload_n 1, 1) := by decide +kernel
theorem dL_law_250 : decode cL_law 250 = .ok (.invokevirtual 35, 3) := by decide +kernel
theorem dL_law_253 : decode cL_law 253 = .ok (.aload_n 2, 1) := by decide +kernel
theorem dL_law_254 : decode cL_law 254 = .ok (.invokevirtual 38, 3) := by decide +kernel
theorem dL_law_257 : decode cL_law 257 = .ok (.goto 157, 3) := by decide +kernel
theorem dL_law_260 : decode cL_law 260 = .ok (.aload_n 1, 1) := by decide +kernel
theorem dL_law_261 : decode cL_law 261 = .ok (.aload_n 0, 1) := by decide +kernel
theorem dL_law_262 : decode cL_law 262 = .ok (.iload_n 3, 1) := by decide +kernel
theorem dL_law_263 : decode cL_law 263 = .ok (.iconst 1, 1) := by decide +kernel
theorem dL_law_264 : decode cL_law 264 = .ok (.iadd, 1) := by decide +kernel
theorem dL_law_265 : decode cL_law 265 = .ok (.iaload, 1) := by decide +kernel
theorem dL_law_266 : decode cL_law 266 = .ok (.invokevirtual 39, 3) := by decide +kernel
theorem dL_law_269 : decode cL_law 269 = .ok (.aload_n 2, 1) := by decide +kernel
theorem dL_law_270 : decode cL_law 270 = .ok (.aload_n 0, 1) := by decide +kernel
theorem dL_law_271 : decode cL_law 271 = .ok (.iload_n 3, 1) := by decide +kernel
theorem dL_law_272 : decode cL_law 272 = .ok (.iconst 1, 1) := by decide +kernel
theorem dL_law_273 : decode cL_law 273 = .ok (.iadd, 1) := by decide +kernel
theorem dL_law_274 : decode cL_law 274 = .ok (.iaload, 1) := by decide +kernel
theorem dL_law_275 : decode cL_law 275 = .ok (.invokevirtual 43, 3) := by decide +kernel
theorem dL_law_278 : decode cL_law 278 = .ok (.if_icmp .eq 136, 3) := by decide +kernel
theorem dL_law_281 : decode cL_law 281 = .ok (.iconst 0, 1) := by decide +kernel
theorem dL_law_282 : decode cL_law 282 = .ok (.ireturn, 1) := by decide +kernel
theorem dL_law_283 : decode cL_law 283 = .ok (.aload_n 1, 1) := by decide +kernel
theorem dL_law_284 : decode cL_law 284 = .ok (.invokevirtual 44, 3) := by decide +kernel
theorem dL_law_287 : decode cL_law 287 = .ok (.aload_n 2, 1) := by decide +kernel
theorem dL_law_288 : decode cL_law 288 = .ok (.invokevirtual 48, 3) := by decide +kernel
theorem dL_law_291 : decode cL_law 291 = .ok (.if_icmp .eq 123, 3) := by decide +kernel
theorem dL_law_294 : decode cL_law 294 = .ok (.iconst 0, 1) := by decide +kernel
theorem dL_law_295 : decode cL_law 295 = .ok (.ireturn, 1) := by decide +kernel
theorem dL_law_296 : decode cL_law 296 = .ok (.aload_n 1, 1) := by decide +kernel
theorem dL_law_297 : decode cL_law 297 = .ok (.invokevirtual 49, 3) := by decide +kernel
theorem dL_law_300 : decode cL_law 300 = .ok (.aload_n 2, 1) := by decide +kernel
theorem dL_law_301 : decode cL_law 301 = .ok (.invokevirtual 52, 3) := by decide +kernel
theorem dL_law_304 : decode cL_law 304 = .ok (.if_icmp .eq 110, 3) := by decide +kernel
theorem dL_law_307 : decode cL_law 307 = .ok (.iconst 0, 1) := by decide +kernel
theorem dL_law_308 : decode cL_law 308 = .ok (.ireturn, 1) := by decide +kernel
theorem dL_law_309 : decode cL_law 309 = .ok (.aload_n 1, 1) := by decide +kernel
theorem dL_law_310 : decode cL_law 310 = .ok (.invokevirtual 53, 3) := by decide +kernel
theorem dL_law_313 : decode cL_law 313 = .ok (.aload_n 2, 1) := by decide +kernel
theorem dL_law_314 : decode cL_law 314 = .ok (.invokevirtual 56, 3) := by decide +kernel
theorem dL_law_317 : decode cL_law 317 = .ok (.if_icmp .eq 97, 3) := by decide +kernel
theorem dL_law_320 : decode cL_law 320 = .ok (.iconst 0, 1) := by decide +kernel
theorem dL_law_321 : decode cL_law 321 = .ok (.ireturn, 1) := by decide +kernel
theorem dL_law_322 : decode cL_law 322 = .ok (.aload_n 1, 1) := by decide +kernel
theorem dL_law_323 : decode cL_law 323 = .ok (.aload_n 0, 1) := by decide +kernel
theorem dL_law_324 : decode cL_law 324 = .ok (.iload_n 3, 1) := by decide +kernel
theorem dL_law_325 : decode cL_law 325 = .ok (.iconst 1, 1) := by decide +kernel
theorem dL_law_326 : decode cL_law 326 = .ok (.iadd, 1) := by decide +kernel
theorem dL_law_327 : decode cL_law 327 = .ok (.iaload, 1) := by decide +kernel
theorem dL_law_328 : decode cL_law 328 = .ok (.invokevirtual 57, 3) := by decide +kernel
theorem dL_law_331 : decode cL_law 331 = .ok (.aload_n 2, 1) := by decide +kernel
theorem dL_law_332 : decode cL_law 332 = .ok (.aload_n 0, 1) := by decide +kernel
theorem dL_law_333 : decode cL_law 333 = .ok (.iload_n 3, 1) := by decide +kernel
theorem dL_law_334 : decode cL_law 334 = .ok (.iconst 1, 1) := by decide +kernel
theorem dL_law_335 : decode cL_law 335 = .ok (.iadd, 1) := by decide +kernel
theorem dL_law_336 : decode cL_law 336 = .ok (.iaload, 1) := by decide +kernel
theorem dL_law_337 : decode cL_law 337 = .ok (.invokevirtual 60, 3) := by decide +kernel
theorem dL_law_340 : decode cL_law 340 = .ok (.if_icmp .eq 74, 3) := by decide +kernel
theorem dL_law_343 : decode cL_law 343 = .ok (.iconst 0, 1) := by decide +kernel
theorem dL_law_344 : decode cL_law 344 = .ok (.ireturn, 1) := by decide +kernel
theorem dL_law_345 : decode cL_law 345 = .ok (.aload_n 1, 1) := by decide +kernel
theorem dL_law_346 : decode cL_law 346 = .ok (.aload_n 0, 1) := by decide +kernel
theorem dL_law_347 : decode cL_law 347 = .ok (.iload_n 3, 1) := by decide +kernel
theorem dL_law_348 : decode cL_law 348 = .ok (.iconst 1, 1) := by decide +kernel
theorem dL_law_349 : decode cL_law 349 = .ok (.iadd, 1) := by decide +kernel
theorem dL_law_350 : decode cL_law 350 = .ok (.iaload, 1) := by decide +kernel
theorem dL_law_351 : decode cL_law 351 = .ok (.invokevirtual 61, 3) := by decide +kernel
theorem dL_law_354 : decode cL_law 354 = .ok (.aload_n 2, 1) := by decide +kernel
theorem dL_law_355 : decode cL_law 355 = .ok (.aload_n 0, 1) := by decide +kernel
theorem dL_law_356 : decode cL_law 356 = .ok (.iload_n 3, 1) := by decide +kernel
theorem dL_law_357 : decode cL_law 357 = .ok (.iconst 1, 1) := by decide +kernel
theorem dL_law_358 : decode cL_law 358 = .ok (.iadd, 1) := by decide +kernel
theorem dL_law_359 : decode cL_law 359 = .ok (.iaload, 1) := by decide +kernel
theorem dL_law_360 : decode cL_law 360 = .ok (.invokevirtual 64, 3) := by decide +kernel
theorem dL_law_363 : decode cL_law 363 = .ok (.if_icmp .eq 51, 3) := by decide +kernel
theorem dL_law_366 : decode cL_law 366 = .ok (.iconst 0, 1) := by decide +kernel
theorem dL_law_367 : decode cL_law 367 = .ok (.ireturn, 1) := by decide +kernel
theorem dL_law_368 : decode cL_law 368 = .ok (.aload_n 1, 1) := by decide +kernel
theorem dL_law_369 : decode cL_law 369 = .ok (.aload_n 0, 1) := by decide +kernel
theorem dL_law_370 : decode cL_law 370 = .ok (.iload_n 3, 1) := by decide +kernel
theorem dL_law_371 : decode cL_law 371 = .ok (.iconst 1, 1) := by decide +kernel
theorem dL_law_372 : decode cL_law 372 = .ok (.iadd, 1) := by decide +kernel
theorem dL_law_373 : decode cL_law 373 = .ok (.iaload, 1) := by decide +kernel
theorem dL_law_374 : decode cL_law 374 = .ok (.invokevirtual 65, 3) := by decide +kernel
theorem dL_law_377 : decode cL_law 377 = .ok (.aload_n 2, 1) := by decide +kernel
theorem dL_law_378 : decode cL_law 378 = .ok (.aload_n 0, 1) := by decide +kernel
theorem dL_law_379 : decode cL_law 379 = .ok (.iload_n 3, 1) := by decide +kernel
theorem dL_law_380 : decode cL_law 380 = .ok (.iconst 1, 1) := by decide +kernel
theorem dL_law_381 : decode cL_law 381 = .ok (.iadd, 1) := by decide +kernel
theorem dL_law_382 : decode cL_law 382 = .ok (.iaload, 1) := by decide +kernel
theorem dL_law_383 : decode cL_law 383 = .ok (.invokevirtual 68, 3) := by decide +kernel
theorem dL_law_386 : decode cL_law 386 = .ok (.if_icmp .eq 28, 3) := by decide +kernel
theorem dL_law_389 : decode cL_law 389 = .ok (.iconst 0, 1) := by decide +kernel
theorem dL_law_390 : decode cL_law 390 = .ok (.ireturn, 1) := by decide +kernel
theorem dL_law_391 : decode cL_law 391 = .ok (.aload_n 1, 1) := by decide +kernel
theorem dL_law_392 : decode cL_law 392 = .ok (.aload_n 0, 1) := by decide +kernel
theorem dL_law_393 : decode cL_law 393 = .ok (.iload_n 3, 1) := by decide +kernel
theorem dL_law_394 : decode cL_law 394 = .ok (.iconst 1, 1) := by decide +kernel
theorem dL_law_395 : decode cL_law 395 = .ok (.iadd, 1) := by decide +kernel
theorem dL_law_396 : decode cL_law 396 = .ok (.iaload, 1) := by decide +kernel
theorem dL_law_397 : decode cL_law 397 = .ok (.invokevirtual 69, 3) := by decide +kernel
theorem dL_law_400 : decode cL_law 400 = .ok (.aload_n 2, 1) := by decide +kernel
theorem dL_law_401 : decode cL_law 401 = .ok (.aload_n 0, 1) := by decide +kernel
theorem dL_law_402 : decode cL_law 402 = .ok (.iload_n 3, 1) := by decide +kernel
theorem dL_law_403 : decode cL_law 403 = .ok (.iconst 1, 1) := by decide +kernel
theorem dL_law_404 : decode cL_law 404 = .ok (.iadd, 1) := by decide +kernel
theorem dL_law_405 : decode cL_law 405 = .ok (.iaload, 1) := by decide +kernel
theorem dL_law_406 : decode cL_law 406 = .ok (.invokevirtual 72, 3) := by decide +kernel
theorem dL_law_409 : decode cL_law 409 = .ok (.if_icmp .eq 5, 3) := by decide +kernel
theorem dL_law_412 : decode cL_law 412 = .ok (.iconst 0, 1) := by decide +kernel
theorem dL_law_413 : decode cL_law 413 = .ok (.ireturn, 1) := by decide +kernel
theorem dL_law_414 : decode cL_law 414 = .ok (.iinc 3 3, 3) := by decide +kernel
theorem dL_law_417 : decode cL_law 417 = .ok (.goto (-399), 3) := by decide +kernel
theorem dL_law_420 : decode cL_law 420 = .ok (.iconst 1, 1) := by decide +kernel
theorem dL_law_421 : decode cL_law 421 = .ok (.ireturn, 1) := by decide +kernel
theorem q14 : (Jvm.Cond.initialized "ExtentIndexLaw") ∈ lw_all := lw_g (lw_at lw_m0 0 rfl) rfl
set_option maxRecDepth 100000
theorem q17 : (Jvm.Cond.classLink "ExtentIndexLaw" (7 : Nat) "ExtentIndex") ∈ lw_all := lw_g (lw_at lw_m0 3 rfl) rfl
theorem q19 : (Jvm.Cond.methodLink "ExtentIndexLaw" (9 : Nat) ({ cls := "ExtentIndex", name := "<init>", desc := "()V" } : Jvm.MethodName)) ∈ lw_all := lw_g (lw_at lw_m0 5 rfl) rfl
theorem q58 : (Jvm.Cond.methodLink "ExtentIndexLaw" (13 : Nat) ({ cls := "ExtentIndex", name := "take", desc := "(I)I" } : Jvm.MethodName)) ∈ lw_all := lw_g (lw_at lw_m0 44 rfl) rfl
theorem q73 : (Jvm.Cond.methodLink "ExtentIndexLaw" (18 : Nat) ({ cls := "ExtentIndex", name := "takeNear", desc := "(II)I" } : Jvm.MethodName)) ∈ lw_all := lw_g (lw_at lw_m0 59 rfl) rfl
theorem q80 : (Jvm.Cond.methodLink "ExtentIndexLaw" (23 : Nat) ({ cls := "ExtentIndex", name := "takeAt", desc := "(II)I" } : Jvm.MethodName)) ∈ lw_all := lw_g (lw_at lw_m0 66 rfl) rfl
theorem q91 : (Jvm.Cond.methodLink "ExtentIndexLaw" (27 : Nat) ({ cls := "ExtentIndex", name := "give", desc := "(II)I" } : Jvm.MethodName)) ∈ lw_all := lw_g (lw_at lw_m0 77 rfl) rfl
theorem q95 : (Jvm.Cond.methodLink "ExtentIndexLaw" (31 : Nat) ({ cls := "ExtentIndex", name := "takePieces", desc := "(I)I" } : Jvm.MethodName)) ∈ lw_all := lw_g (lw_at lw_m0 81 rfl) rfl
theorem q103 : (Jvm.Cond.methodLink "ExtentIndexLaw" (35 : Nat) ({ cls := "ExtentIndex", name := "clear", desc := "()V" } : Jvm.MethodName)) ∈ lw_all := lw_g (lw_at lw_m0 89 rfl) rfl
theorem q104 : (Jvm.Cond.methodLink "ExtentIndexLaw" (39 : Nat) ({ cls := "ExtentIndex", name := "free", desc := "(I)Z" } : Jvm.MethodName)) ∈ lw_all := lw_g (lw_at lw_m0 90 rfl) rfl
theorem q108 : (Jvm.Cond.methodLink "ExtentIndexLaw" (44 : Nat) ({ cls := "ExtentIndex", name := "freeBlocks", desc := "()I" } : Jvm.MethodName)) ∈ lw_all := lw_g (lw_at lw_m0 94 rfl) rfl
theorem q112 : (Jvm.Cond.methodLink "ExtentIndexLaw" (49 : Nat) ({ cls := "ExtentIndex", name := "extents", desc := "()I" } : Jvm.MethodName)) ∈ lw_all := lw_g (lw_at lw_m0 98 rfl) rfl
theorem q116 : (Jvm.Cond.methodLink "ExtentIndexLaw" (53 : Nat) ({ cls := "ExtentIndex", name := "largest", desc := "()I" } : Jvm.MethodName)) ∈ lw_all := lw_g (lw_at lw_m0 102 rfl) rfl
theorem q120 : (Jvm.Cond.methodLink "ExtentIndexLaw" (57 : Nat) ({ cls := "ExtentIndex", name := "next", desc := "(I)I" } : Jvm.MethodName)) ∈ lw_all := lw_g (lw_at lw_m0 106 rfl) rfl
theorem q124 : (Jvm.Cond.methodLink "ExtentIndexLaw" (61 : Nat) ({ cls := "ExtentIndex", name := "sizeAt", desc := "(I)I" } : Jvm.MethodName)) ∈ lw_all := lw_g (lw_at lw_m0 110 rfl) rfl
theorem q128 : (Jvm.Cond.methodLink "ExtentIndexLaw" (65 : Nat) ({ cls := "ExtentIndex", name := "bySize", desc := "(I)I" } : Jvm.MethodName)) ∈ lw_all := lw_g (lw_at lw_m0 114 rfl) rfl
theorem q132 : (Jvm.Cond.methodLink "ExtentIndexLaw" (69 : Nat) ({ cls := "ExtentIndex", name := "atLeast", desc := "(I)I" } : Jvm.MethodName)) ∈ lw_all := lw_g (lw_at lw_m0 118 rfl) rfl
theorem q136 : (Jvm.Cond.classLink "ExtentIndexLaw" (10 : Nat) "ExtentIndexModel") ∈ lw_all := lw_g (lw_at lw_m0 122 rfl) rfl
theorem q138 : (Jvm.Cond.methodLink "ExtentIndexLaw" (12 : Nat) ({ cls := "ExtentIndexModel", name := "<init>", desc := "()V" } : Jvm.MethodName)) ∈ lw_all := lw_g (lw_at lw_m0 124 rfl) rfl
theorem q147 : (Jvm.Cond.methodLink "ExtentIndexLaw" (17 : Nat) ({ cls := "ExtentIndexModel", name := "take", desc := "(I)I" } : Jvm.MethodName)) ∈ lw_all := lw_g (lw_at lw_m0 133 rfl) rfl
theorem q171 : (Jvm.Cond.methodLink "ExtentIndexLaw" (22 : Nat) ({ cls := "ExtentIndexModel", name := "takeNear", desc := "(II)I" } : Jvm.MethodName)) ∈ lw_all := lw_g (lw_at lw_m0 157 rfl) rfl
theorem q179 : (Jvm.Cond.methodLink "ExtentIndexLaw" (26 : Nat) ({ cls := "ExtentIndexModel", name := "takeAt", desc := "(II)I" } : Jvm.MethodName)) ∈ lw_all := lw_g (lw_at lw_m0 165 rfl) rfl
theorem q195 : (Jvm.Cond.methodLink "ExtentIndexLaw" (30 : Nat) ({ cls := "ExtentIndexModel", name := "give", desc := "(II)I" } : Jvm.MethodName)) ∈ lw_all := lw_g (lw_at lw_m0 181 rfl) rfl
theorem q203 : (Jvm.Cond.methodLink "ExtentIndexLaw" (34 : Nat) ({ cls := "ExtentIndexModel", name := "takePieces", desc := "(I)I" } : Jvm.MethodName)) ∈ lw_all := lw_g (lw_at lw_m0 189 rfl) rfl
theorem q211 : (Jvm.Cond.methodLink "ExtentIndexLaw" (38 : Nat) ({ cls := "ExtentIndexModel", name := "clear", desc := "()V" } : Jvm.MethodName)) ∈ lw_all := lw_g (lw_at lw_m0 197 rfl) rfl
theorem q215 : (Jvm.Cond.methodLink "ExtentIndexLaw" (43 : Nat) ({ cls := "ExtentIndexModel", name := "free", desc := "(I)Z" } : Jvm.MethodName)) ∈ lw_all := lw_g (lw_at lw_m0 201 rfl) rfl
theorem q219 : (Jvm.Cond.methodLink "ExtentIndexLaw" (48 : Nat) ({ cls := "ExtentIndexModel", name := "freeBlocks", desc := "()I" } : Jvm.MethodName)) ∈ lw_all := lw_g (lw_at lw_m0 205 rfl) rfl
theorem q223 : (Jvm.Cond.methodLink "ExtentIndexLaw" (52 : Nat) ({ cls := "ExtentIndexModel", name := "extents", desc := "()I" } : Jvm.MethodName)) ∈ lw_all := lw_g (lw_at lw_m0 209 rfl) rfl
theorem q224 : (Jvm.Cond.methodLink "ExtentIndexLaw" (56 : Nat) ({ cls := "ExtentIndexModel", name := "largest", desc := "()I" } : Jvm.MethodName)) ∈ lw_all := lw_g (lw_at lw_m0 210 rfl) rfl
theorem q225 : (Jvm.Cond.methodLink "ExtentIndexLaw" (60 : Nat) ({ cls := "ExtentIndexModel", name := "next", desc := "(I)I" } : Jvm.MethodName)) ∈ lw_all := lw_g (lw_at lw_m0 211 rfl) rfl
theorem q229 : (Jvm.Cond.methodLink "ExtentIndexLaw" (64 : Nat) ({ cls := "ExtentIndexModel", name := "sizeAt", desc := "(I)I" } : Jvm.MethodName)) ∈ lw_all := lw_g (lw_at lw_m0 215 rfl) rfl
theorem q230 : (Jvm.Cond.methodLink "ExtentIndexLaw" (68 : Nat) ({ cls := "ExtentIndexModel", name := "bySize", desc := "(I)I" } : Jvm.MethodName)) ∈ lw_all := lw_g (lw_at lw_m0 216 rfl) rfl
theorem q234 : (Jvm.Cond.methodLink "ExtentIndexLaw" (72 : Nat) ({ cls := "ExtentIndexModel", name := "atLeast", desc := "(I)I" } : Jvm.MethodName)) ∈ lw_all := lw_g (lw_at lw_m0 220 rfl) rfl
end
section
/-! numbers: every int of the walk is zI of an Int -/
def zI (z : Int) : Int32 := Int32.ofInt z
theorem zI_nat (n : Nat) : zI (n : Int) = nI n := Int32.ofInt_eq_ofNat
theorem zI_add (a b : Int) : zI a + zI b = zI (a + b) := (Int32.ofInt_add a b).symm
theorem zI_sub (a b : Int) : zI a - zI b = zI (a - b) := (Int32.ofInt_sub a b).symm
theorem zI_mul (a b : Int) : zI a * zI b = zI (a * b) := (Int32.ofInt_mul a b).symm
theorem zI_toInt {a : Int} (h1 : -2147483648 ≤ a) (h2 : a < 2147483648) : (zI a).toInt = a := Int32.toInt_ofInt_of_le (by omega) (by omega)
theorem zI_of (x : Int32) : zI x.toInt = x := Int32.ofInt_toInt x
theorem zI_ex (x : Int32) : ∃ a : Int, -2147483648 ≤ a ∧ a < 2147483648 ∧ x = zI a := ⟨x.toInt, by have := Int32.le_toInt x; omega, by have := Int32.toInt_lt x; omega, (zI_of x).symm⟩
abbrev zIn (a : Int) : Prop := -2147483648 ≤ a ∧ a < 2147483648
theorem zI_lt {a b : Int} (h : zIn a ∧ zIn b) : zI a < zI b ↔ a < b := by
  rw [Int32.lt_iff_toInt_lt, zI_toInt h.1.1 h.1.2, zI_toInt h.2.1 h.2.2]
theorem zI_le {a b : Int} (h : zIn a ∧ zIn b) : zI a ≤ zI b ↔ a ≤ b := by
  rw [Int32.le_iff_toInt_le, zI_toInt h.1.1 h.1.2, zI_toInt h.2.1 h.2.2]
theorem zI_eq {a b : Int} (h : zIn a ∧ zIn b) : zI a = zI b ↔ a = b := by
  rw [← Int32.toInt_inj, zI_toInt h.1.1 h.1.2, zI_toInt h.2.1 h.2.2]
theorem zI_0 : zI 0 = 0 := rfl
theorem zI_clamp {j : Nat} (h : j < 2147483648) : (zI (j : Int)).toNatClampNeg = j := by
  rw [zI_nat]; exact nI_clamp (by omega)
theorem zI_in {j n : Nat} (h : j < n) (hn : n < 2147483648) : vp_in (zI (j : Int)) n := by
  rw [zI_nat]; exact vp_in_nI h (by omega)
theorem zI_div {a d : Nat} (ha : a < 2147483648) (h0 : 0 < d) (hd : d < 2147483648) : zI (a : Int) / zI (d : Int) = zI ((a / d : Nat) : Int) := by
  rw [zI_nat, zI_nat, zI_nat, pk_div (by omega) h0 (by omega)]
theorem zI_rem {a d : Nat} (ha : a < 2147483648) (h0 : 0 < d) (hd : d < 2147483648) : zI (a : Int) - zI (a : Int) / zI (d : Int) * zI (d : Int) = zI ((a % d : Nat) : Int) := by
  rw [zI_nat, zI_nat, zI_nat, pk_rem (by omega) h0 (by omega)]
/-- an int array that holds numbers -/
def zA (f : Nat → Nat) : Nat → Int32 := fun j => zI ((f j : Nat) : Int)
def zU (f : Nat → Nat) (k v : Nat) : Nat → Nat := fun j => if j = k then v else f j
theorem zA_upd (f : Nat → Nat) (k v : Nat) : upd (zA f) k (zI (v : Int)) = zA (zU f k v) := by
  funext j
  unfold upd zA zU
  by_cases h : j = k
  · simp [h]
  · simp [h]
/-- a boolean array: F says which places are false -/
def zT (F : Nat → Bool) : Nat → Int32 := fun j => if F j = true then zI 0 else zI 1
def zV (F : Nat → Bool) (k : Nat) (v : Bool) : Nat → Bool := fun j => if j = k then v else F j
def zb (v : Bool) : Int := if v = true then 0 else 1
theorem zT_upd (F : Nat → Bool) (k : Nat) (v : Bool) : upd (zT F) k (vp_nar .boolean (zI (zb v))) = zT (zV F k v) := by
  have h0 : vp_nar .boolean (zI 0) = zI 0 := rfl
  have h1 : vp_nar .boolean (zI 1) = zI 1 := rfl
  funext j
  unfold upd zT zV
  by_cases h : j = k
  · cases v
    · simp [h, zb, h1]
    · simp [h, zb, h0]
  · simp [h]
/-- a boolean answer -/
def zB (P : Prop) (r : Int32) : Prop := (r = zI 1 ∧ P) ∨ (r = zI 0 ∧ ¬ P)
section ZR
variable {p : Program} {l : Launch} {e : Env} {R : Room} {s : State} {m : MethodId} {args : Array Value} {below : List Frame} {meth : Method} {c : Code} {H : Heap} {locs : List Loc} {cells slots : Nat} {Q : State → Prop}
variable {cc : ByteArray} {pc : Nat} {ls : Array Slot} {rest : List Value}
theorem zr_iconst (hexec : p.tables.exec = Jvm.exec) (hb : c.code = cc) {n : Int} (hdg : decode cc pc = .ok (.iconst n, 1))
    (k : W p l e R s m args below meth c H locs cells slots Q (F0 m (pc + 1) ls (.int (zI n) :: rest))) : W p l e R s m args below meth c H locs cells slots Q (F0 m pc ls rest) := lv_iconst hexec hb hdg rfl k
theorem zr_iconstN (v : Nat) (hexec : p.tables.exec = Jvm.exec) (hb : c.code = cc) {n : Int} (hdg : decode cc pc = .ok (.iconst n, 1)) (hv : n = (v : Int))
    (k : W p l e R s m args below meth c H locs cells slots Q (F0 m (pc + 1) ls (.int (zI (v : Int)) :: rest))) : W p l e R s m args below meth c H locs cells slots Q (F0 m pc ls rest) := by
  subst hv
  exact lv_iconst hexec hb hdg rfl k
theorem zr_bipush (v : Int) (hexec : p.tables.exec = Jvm.exec) (hb : c.code = cc) {n : Int} (hdg : decode cc pc = .ok (.bipush n, 2)) (hv : (Int8.ofInt n).toInt32 = zI v)
    (k : W p l e R s m args below meth c H locs cells slots Q (F0 m (pc + 2) ls (.int (zI v) :: rest))) : W p l e R s m args below meth c H locs cells slots Q (F0 m pc ls rest) := lv_bipush hexec hb hdg hv k
theorem zr_sipush (v : Int) (hexec : p.tables.exec = Jvm.exec) (hb : c.code = cc) {n : Int} (hdg : decode cc pc = .ok (.sipush n, 3)) (hv : (Int16.ofInt n).toInt32 = zI v)
    (k : W p l e R s m args below meth c H locs cells slots Q (F0 m (pc + 3) ls (.int (zI v) :: rest))) : W p l e R s m args below meth c H locs cells slots Q (F0 m pc ls rest) := lv_sipush hexec hb hdg hv k
/-- another word for the int on top -/
theorem zr_top {x y : Int} (h : x = y) (k : W p l e R s m args below meth c H locs cells slots Q (F0 m pc ls (.int (zI y) :: rest))) : W p l e R s m args below meth c H locs cells slots Q (F0 m pc ls (.int (zI x) :: rest)) := by
  subst h; exact k
theorem zr_iadd (hexec : p.tables.exec = Jvm.exec) (hb : c.code = cc) {x y : Int} (hdg : decode cc pc = .ok (.iadd, 1))
    (k : W p l e R s m args below meth c H locs cells slots Q (F0 m (pc + 1) ls (.int (zI (x + y)) :: rest))) : W p l e R s m args below meth c H locs cells slots Q (F0 m pc ls (.int (zI y) :: .int (zI x) :: rest)) := lv_iadd hexec hb hdg (by rw [zI_add]; exact k)
theorem zr_iaddN (hexec : p.tables.exec = Jvm.exec) (hb : c.code = cc) {x y : Nat} (hdg : decode cc pc = .ok (.iadd, 1))
    (k : W p l e R s m args below meth c H locs cells slots Q (F0 m (pc + 1) ls (.int (zI ((x + y : Nat) : Int)) :: rest))) : W p l e R s m args below meth c H locs cells slots Q (F0 m pc ls (.int (zI (y : Int)) :: .int (zI (x : Int)) :: rest)) := lv_iadd hexec hb hdg (by rw [zI_add]; exact k)
theorem zr_isub (hexec : p.tables.exec = Jvm.exec) (hb : c.code = cc) {x y : Int} (hdg : decode cc pc = .ok (.isub, 1))
    (k : W p l e R s m args below meth c H locs cells slots Q (F0 m (pc + 1) ls (.int (zI (x - y)) :: rest))) : W p l e R s m args below meth c H locs cells slots Q (F0 m pc ls (.int (zI y) :: .int (zI x) :: rest)) := lv_isub hexec hb hdg (by rw [zI_sub]; exact k)
theorem zr_isubN (hexec : p.tables.exec = Jvm.exec) (hb : c.code = cc) {x y : Nat} (h : y ≤ x) (hdg : decode cc pc = .ok (.isub, 1))
    (k : W p l e R s m args below meth c H locs cells slots Q (F0 m (pc + 1) ls (.int (zI ((x - y : Nat) : Int)) :: rest))) : W p l e R s m args below meth c H locs cells slots Q (F0 m pc ls (.int (zI (y : Int)) :: .int (zI (x : Int)) :: rest)) := lv_isub hexec hb hdg (by rw [zI_sub, show (x : Int) - (y : Int) = ((x - y : Nat) : Int) by omega]; exact k)
theorem zr_imulN (hexec : p.tables.exec = Jvm.exec) (hb : c.code = cc) {x y : Nat} (hdg : decode cc pc = .ok (.imul, 1))
    (k : W p l e R s m args below meth c H locs cells slots Q (F0 m (pc + 1) ls (.int (zI ((x * y : Nat) : Int)) :: rest))) : W p l e R s m args below meth c H locs cells slots Q (F0 m pc ls (.int (zI (y : Int)) :: .int (zI (x : Int)) :: rest)) := lv_imul hexec hb hdg (by rw [zI_mul]; exact k)
theorem zI_ne0 {d : Nat} (h0 : 0 < d) (hd : d < 2147483648) : ¬ zI (d : Int) = 0 := by
  rw [← zI_0, zI_eq ⟨⟨by omega, by omega⟩, by omega, by omega⟩]; omega
theorem zr_idivN (hexec : p.tables.exec = Jvm.exec) (hb : c.code = cc) {x y : Nat} (hx : x < 2147483648) (hy : 0 < y) (hy2 : y < 2147483648) (hdg : decode cc pc = .ok (.idiv, 1))
    (k : W p l e R s m args below meth c H locs cells slots Q (F0 m (pc + 1) ls (.int (zI ((x / y : Nat) : Int)) :: rest))) : W p l e R s m args below meth c H locs cells slots Q (F0 m pc ls (.int (zI (y : Int)) :: .int (zI (x : Int)) :: rest)) := lv_idiv hexec hb hdg (zI_ne0 hy hy2) (by rw [zI_div hx hy hy2]; exact k)
theorem zr_iremN (hexec : p.tables.exec = Jvm.exec) (hb : c.code = cc) {x y : Nat} (hx : x < 2147483648) (hy : 0 < y) (hy2 : y < 2147483648) (hdg : decode cc pc = .ok (.irem, 1))
    (k : W p l e R s m args below meth c H locs cells slots Q (F0 m (pc + 1) ls (.int (zI ((x % y : Nat) : Int)) :: rest))) : W p l e R s m args below meth c H locs cells slots Q (F0 m pc ls (.int (zI (y : Int)) :: .int (zI (x : Int)) :: rest)) := lv_irem hexec hb hdg (zI_ne0 hy hy2) (by rw [zI_rem hx hy hy2]; exact k)
theorem zr_iinc (hexec : p.tables.exec = Jvm.exec) (hb : c.code = cc) {i nL k : Nat} {n : Int} {x : Int} (v : Int) {lv lv' : List (Nat × Value)} (hdg : decode cc pc = .ok (.iinc i n, 3)) (h : lv_has ls nL lv) (hk : lv[k]? = some (i, .int (zI x))) (hv : x + n = v) (hn : i < nL) (hl : (i, Value.int (zI v)) :: lv.filter (fun q => !(q.1 == i) && !(q.1 + 1 == i && q.2.category == 2)) = lv')
    (kk : ∀ ls' : Array Slot, lv_has ls' nL lv' → W p l e R s m args below meth c H locs cells slots Q (F0 m (pc + 3) ls' rest)) : W p l e R s m args below meth c H locs cells slots Q (F0 m pc ls rest) := lv_iinc (v := zI v) hexec hb hdg h hk (by subst hv; exact zI_add x n) hn hl kk
theorem zr_icmp_lt (hexec : p.tables.exec = Jvm.exec) (hb : c.code = cc) {x y : Int} {off : Int} {tgt : Nat} (hdg : decode cc pc = .ok (.if_icmp .lt off, 3)) (ht : (pc : Int) + off = (tgt : Int)) (h : zIn x ∧ zIn y)
    (kt : x < y → W p l e R s m args below meth c H locs cells slots Q (F0 m tgt ls rest)) (kf : y ≤ x → W p l e R s m args below meth c H locs cells slots Q (F0 m (pc + 3) ls rest)) : W p l e R s m args below meth c H locs cells slots Q (F0 m pc ls (.int (zI y) :: .int (zI x) :: rest)) :=
  lv_icmp_lt hexec hb hdg ht (fun q => kt ((zI_lt h).mp q)) (fun q => kf (Int.not_lt.mp (fun z => q ((zI_lt h).mpr z))))
theorem zr_icmp_ge (hexec : p.tables.exec = Jvm.exec) (hb : c.code = cc) {x y : Int} {off : Int} {tgt : Nat} (hdg : decode cc pc = .ok (.if_icmp .ge off, 3)) (ht : (pc : Int) + off = (tgt : Int)) (h : zIn x ∧ zIn y)
    (kt : y ≤ x → W p l e R s m args below meth c H locs cells slots Q (F0 m tgt ls rest)) (kf : x < y → W p l e R s m args below meth c H locs cells slots Q (F0 m (pc + 3) ls rest)) : W p l e R s m args below meth c H locs cells slots Q (F0 m pc ls (.int (zI y) :: .int (zI x) :: rest)) :=
  lv_icmp_ge hexec hb hdg ht (fun q => kt ((zI_le h.symm).mp q)) (fun q => kf (Int.not_le.mp (fun z => q ((zI_le h.symm).mpr z))))
theorem zr_icmp_gt (hexec : p.tables.exec = Jvm.exec) (hb : c.code = cc) {x y : Int} {off : Int} {tgt : Nat} (hdg : decode cc pc = .ok (.if_icmp .gt off, 3)) (ht : (pc : Int) + off = (tgt : Int)) (h : zIn x ∧ zIn y)
    (kt : y < x → W p l e R s m args below meth c H locs cells slots Q (F0 m tgt ls rest)) (kf : x ≤ y → W p l e R s m args below meth c H locs cells slots Q (F0 m (pc + 3) ls rest)) : W p l e R s m args below meth c H locs cells slots Q (F0 m pc ls (.int (zI y) :: .int (zI x) :: rest)) :=
  lv_icmp_gt hexec hb hdg ht (fun q => kt ((zI_lt h.symm).mp q)) (fun q => kf (Int.not_lt.mp (fun z => q ((zI_lt h.symm).mpr z))))
theorem zr_icmp_le (hexec : p.tables.exec = Jvm.exec) (hb : c.code = cc) {x y : Int} {off : Int} {tgt : Nat} (hdg : decode cc pc = .ok (.if_icmp .le off, 3)) (ht : (pc : Int) + off = (tgt : Int)) (h : zIn x ∧ zIn y)
    (kt : x ≤ y → W p l e R s m args below meth c H locs cells slots Q (F0 m tgt ls rest)) (kf : y < x → W p l e R s m args below meth c H locs cells slots Q (F0 m (pc + 3) ls rest)) : W p l e R s m args below meth c H locs cells slots Q (F0 m pc ls (.int (zI y) :: .int (zI x) :: rest)) :=
  lv_icmp_le hexec hb hdg ht (fun q => kt ((zI_le h).mp q)) (fun q => kf (Int.not_le.mp (fun z => q ((zI_le h).mpr z))))
theorem zr_icmp_eq (hexec : p.tables.exec = Jvm.exec) (hb : c.code = cc) {x y : Int} {off : Int} {tgt : Nat} (hdg : decode cc pc = .ok (.if_icmp .eq off, 3)) (ht : (pc : Int) + off = (tgt : Int)) (h : zIn x ∧ zIn y)
    (kt : x = y → W p l e R s m args below meth c H locs cells slots Q (F0 m tgt ls rest)) (kf : ¬ x = y → W p l e R s m args below meth c H locs cells slots Q (F0 m (pc + 3) ls rest)) : W p l e R s m args below meth c H locs cells slots Q (F0 m pc ls (.int (zI y) :: .int (zI x) :: rest)) :=
  lv_icmp_eq hexec hb hdg ht (fun q => kt ((zI_eq h).mp q)) (fun q => kf (fun z => q ((zI_eq h).mpr z)))
theorem zr_icmp_ne (hexec : p.tables.exec = Jvm.exec) (hb : c.code = cc) {x y : Int} {off : Int} {tgt : Nat} (hdg : decode cc pc = .ok (.if_icmp .ne off, 3)) (ht : (pc : Int) + off = (tgt : Int)) (h : zIn x ∧ zIn y)
    (kt : ¬ x = y → W p l e R s m args below meth c H locs cells slots Q (F0 m tgt ls rest)) (kf : x = y → W p l e R s m args below meth c H locs cells slots Q (F0 m (pc + 3) ls rest)) : W p l e R s m args below meth c H locs cells slots Q (F0 m pc ls (.int (zI y) :: .int (zI x) :: rest)) :=
  lv_icmp_ne hexec hb hdg ht (fun q => kt (fun z => q ((zI_eq h).mpr z))) (fun q => kf ((zI_eq h).mp q))
theorem zr_if_lt (hexec : p.tables.exec = Jvm.exec) (hb : c.code = cc) {x : Int} {off : Int} {tgt : Nat} (hdg : decode cc pc = .ok (.ifCond .lt off, 3)) (ht : (pc : Int) + off = (tgt : Int)) (h : zIn x)
    (kt : x < 0 → W p l e R s m args below meth c H locs cells slots Q (F0 m tgt ls rest)) (kf : 0 ≤ x → W p l e R s m args below meth c H locs cells slots Q (F0 m (pc + 3) ls rest)) : W p l e R s m args below meth c H locs cells slots Q (F0 m pc ls (.int (zI x) :: rest)) :=
  have h : zIn x ∧ zIn 0 := ⟨h, by decide, by decide⟩
  lv_if_lt hexec hb hdg ht (fun q => kt ((zI_lt h).mp q)) (fun q => kf (Int.not_lt.mp (fun z => q ((zI_lt h).mpr z))))
theorem zr_if_ge (hexec : p.tables.exec = Jvm.exec) (hb : c.code = cc) {x : Int} {off : Int} {tgt : Nat} (hdg : decode cc pc = .ok (.ifCond .ge off, 3)) (ht : (pc : Int) + off = (tgt : Int)) (h : zIn x)
    (kt : 0 ≤ x → W p l e R s m args below meth c H locs cells slots Q (F0 m tgt ls rest)) (kf : x < 0 → W p l e R s m args below meth c H locs cells slots Q (F0 m (pc + 3) ls rest)) : W p l e R s m args below meth c H locs cells slots Q (F0 m pc ls (.int (zI x) :: rest)) :=
  have h : zIn 0 ∧ zIn x := ⟨⟨by decide, by decide⟩, h⟩
  lv_if_ge hexec hb hdg ht (fun q => kt ((zI_le h).mp q)) (fun q => kf (Int.not_le.mp (fun z => q ((zI_le h).mpr z))))
theorem zr_if_le (hexec : p.tables.exec = Jvm.exec) (hb : c.code = cc) {x : Int} {off : Int} {tgt : Nat} (hdg : decode cc pc = .ok (.ifCond .le off, 3)) (ht : (pc : Int) + off = (tgt : Int)) (h : zIn x)
    (kt : x ≤ 0 → W p l e R s m args below meth c H locs cells slots Q (F0 m tgt ls rest)) (kf : 0 < x → W p l e R s m args below meth c H locs cells slots Q (F0 m (pc + 3) ls rest)) : W p l e R s m args below meth c H locs cells slots Q (F0 m pc ls (.int (zI x) :: rest)) :=
  have h : zIn x ∧ zIn 0 := ⟨h, by decide, by decide⟩
  lv_if_le hexec hb hdg ht (fun q => kt ((zI_le h).mp q)) (fun q => kf (Int.not_le.mp (fun z => q ((zI_le h).mpr z))))
theorem zr_if_eq (hexec : p.tables.exec = Jvm.exec) (hb : c.code = cc) {x : Int} {off : Int} {tgt : Nat} (hdg : decode cc pc = .ok (.ifCond .eq off, 3)) (ht : (pc : Int) + off = (tgt : Int)) (h : zIn x)
    (kt : x = 0 → W p l e R s m args below meth c H locs cells slots Q (F0 m tgt ls rest)) (kf : ¬ x = 0 → W p l e R s m args below meth c H locs cells slots Q (F0 m (pc + 3) ls rest)) : W p l e R s m args below meth c H locs cells slots Q (F0 m pc ls (.int (zI x) :: rest)) :=
  have h : zIn x ∧ zIn 0 := ⟨h, by decide, by decide⟩
  lv_if_eq hexec hb hdg ht (fun q => kt ((zI_eq h).mp q)) (fun q => kf (fun z => q ((zI_eq h).mpr z)))
theorem zr_if_ne (hexec : p.tables.exec = Jvm.exec) (hb : c.code = cc) {x : Int} {off : Int} {tgt : Nat} (hdg : decode cc pc = .ok (.ifCond .ne off, 3)) (ht : (pc : Int) + off = (tgt : Int)) (h : zIn x)
    (kt : ¬ x = 0 → W p l e R s m args below meth c H locs cells slots Q (F0 m tgt ls rest)) (kf : x = 0 → W p l e R s m args below meth c H locs cells slots Q (F0 m (pc + 3) ls rest)) : W p l e R s m args below meth c H locs cells slots Q (F0 m pc ls (.int (zI x) :: rest)) :=
  have h : zIn x ∧ zIn 0 := ⟨h, by decide, by decide⟩
  lv_if_ne hexec hb hdg ht (fun q => kt (fun z => q ((zI_eq h).mpr z))) (fun q => kf ((zI_eq h).mp q))
variable {D : va_G} {cl : List vw_C} {A : Nat → Prop} {a : Nat} {tys : List (ClassId × FieldType)} {ws : va_W} {H0 : Heap}
theorem zr_iald (hexec : p.tables.exec = Jvm.exec) (hb : c.code = cc) (hK : va_K D cl tys s) (hP : va_P D cl ws H) (q0 t0 : Nat) {cA : ClassId} {n : Nat} {f : Nat → Nat} (ha : ws[q0]? = some (a, .inl (cA, n, .inl (zA f)))) (ht : tys[t0]? = some (cA, .int)) {x : Int} (j : Nat) (hxj : x = (j : Int)) (hj : j < n) (hn : n < 2147483648) (hdg : decode cc pc = .ok (.iaload, 1))
    (kk : W p l e R s m args below meth c H locs cells slots Q (F0 m (pc + 1) ls (.int (zI ((f j : Nat) : Int)) :: rest))) : W p l e R s m args below meth c H locs cells slots Q (F0 m pc ls (.int (zI x) :: .ref a :: rest)) := by
  subst hxj
  refine va_iald hexec hb hK hP q0 t0 ha ht (zI_in hj hn) hdg ?_
  rw [zI_clamp (by omega)]
  exact kk
theorem zr_iast (hexec : p.tables.exec = Jvm.exec) (hb : c.code = cc) (hK : va_K D cl tys s) (hP : va_P D cl ws H) (hD : va_D A ws) (hS : va_S A H0 H locs) (q0 t0 : Nat) {cA : ClassId} {n : Nat} {f : Nat → Nat} (ha : ws[q0]? = some (a, .inl (cA, n, .inl (zA f)))) (ht : tys[t0]? = some (cA, .int)) {x v : Int} (j w : Nat) (hxj : x = (j : Int)) (hvw : v = (w : Int)) (hj : j < n) (hn : n < 2147483648) (hdg : decode cc pc = .ok (.iastore, 1))
    (kk : ∀ (H1 : Heap) (locs1 : List Loc), va_P D cl (ws.set q0 (a, .inl (cA, n, .inl (zA (zU f j w))))) H1 → va_D A (ws.set q0 (a, .inl (cA, n, .inl (zA (zU f j w))))) → va_S A H0 H1 locs1 → W p l e R s m args below meth c H1 locs1 cells slots Q (F0 m (pc + 1) ls rest)) : W p l e R s m args below meth c H locs cells slots Q (F0 m pc ls (.int (zI v) :: .int (zI x) :: .ref a :: rest)) := by
  subst hxj; subst hvw
  refine va_iast hexec hb hK hP hD hS q0 t0 ha ht (zI_in hj hn) hdg (fun H1 locs1 h1 h2 h3 => ?_)
  rw [zI_clamp (by omega), zA_upd] at h1 h2
  exact kk H1 locs1 h1 h2 h3
theorem zr_zald (hexec : p.tables.exec = Jvm.exec) (hb : c.code = cc) (hK : va_K D cl tys s) (hP : va_P D cl ws H) (q0 t0 : Nat) {cA : ClassId} {n : Nat} {F : Nat → Bool} (ha : ws[q0]? = some (a, .inl (cA, n, .inl (zT F)))) (ht : tys[t0]? = some (cA, .boolean)) {x : Int} (j : Nat) (hxj : x = (j : Int)) (hj : j < n) (hn : n < 2147483648) (hdg : decode cc pc = .ok (.baload, 1))
    (kt : F j = true → W p l e R s m args below meth c H locs cells slots Q (F0 m (pc + 1) ls (.int (zI 0) :: rest))) (kf : F j = false → W p l e R s m args below meth c H locs cells slots Q (F0 m (pc + 1) ls (.int (zI 1) :: rest))) : W p l e R s m args below meth c H locs cells slots Q (F0 m pc ls (.int (zI x) :: .ref a :: rest)) := by
  subst hxj
  refine va_zald hexec hb hK hP q0 t0 ha ht (zI_in hj hn) hdg ?_
  rw [zI_clamp (by omega)]
  cases hF : F j with
  | true =>
    have e1 : zT F j = zI 0 := by unfold zT; rw [if_pos hF]
    rw [e1]; exact kt hF
  | false =>
    have e1 : zT F j = zI 1 := by unfold zT; rw [if_neg (by rw [hF]; decide)]
    rw [e1]; exact kf hF
theorem zr_zast (hexec : p.tables.exec = Jvm.exec) (hb : c.code = cc) (hK : va_K D cl tys s) (hP : va_P D cl ws H) (hD : va_D A ws) (hS : va_S A H0 H locs) (q0 t0 : Nat) {cA : ClassId} {n : Nat} {F : Nat → Bool} (ha : ws[q0]? = some (a, .inl (cA, n, .inl (zT F)))) (ht : tys[t0]? = some (cA, .boolean)) {x : Int} (j : Nat) (v : Bool) (hxj : x = (j : Int)) (hj : j < n) (hn : n < 2147483648) (hdg : decode cc pc = .ok (.bastore, 1))
    (kk : ∀ (H1 : Heap) (locs1 : List Loc), va_P D cl (ws.set q0 (a, .inl (cA, n, .inl (zT (zV F j v))))) H1 → va_D A (ws.set q0 (a, .inl (cA, n, .inl (zT (zV F j v))))) → va_S A H0 H1 locs1 → W p l e R s m args below meth c H1 locs1 cells slots Q (F0 m (pc + 1) ls rest)) : W p l e R s m args below meth c H locs cells slots Q (F0 m pc ls (.int (zI (zb v)) :: .int (zI x) :: .ref a :: rest)) := by
  subst hxj
  refine va_zast hexec hb hK hP hD hS q0 t0 ha ht (zI_in hj hn) hdg (fun H1 locs1 h1 h2 h3 => ?_)
  rw [zI_clamp (by omega), zT_upd] at h1 h2
  exact kk H1 locs1 h1 h2 h3
end ZR
end
section
/-! forms of contracts; entries, exits, calls -/
abbrev vwCl : List vw_C := [(RX0, TX0, 5), (RX1, TX1, 1)]
/-- the cells of an ExtentIndex: count c, place p, size s, bySize k, total t -/
abbrev wX (h0 a1 a2 a3 : Nat) (dA : ClassId) (c : Nat) (p s k : Nat → Nat) (t : Nat) : va_W := [(h0, .inr (0, [.int (zI (c : Int)), .ref a1, .ref a2, .ref a3, .int (zI (t : Int))])), (a1, .inl (dA, 130, .inl (zA p))), (a2, .inl (dA, 130, .inl (zA s))), (a3, .inl (dA, 130, .inl (zA k)))]
/-- the cells of an ExtentIndexModel: taken is false where F is true -/
abbrev wM (g0 b1 : Nat) (dB : ClassId) (F : Nat → Bool) : va_W := [(g0, .inr (1, [.ref b1])), (b1, .inl (dB, 256, .inl (zT F)))]
/-- what an ExtentIndex holds: count, place, size, bySize, total -/
abbrev zSt : Type := Nat × (Nat → Nat) × (Nat → Nat) × (Nat → Nat) × Nat
abbrev wXu (h0 a1 a2 a3 : Nat) (dA : ClassId) (u : zSt) : va_W := wX h0 a1 a2 a3 dA u.1 u.2.1 u.2.2.1 u.2.2.2.1 u.2.2.2.2
/-- a method that only reads -/
abbrev zRO (l : Launch) (y : MethodName) (cc : ByteArray) (maxL : Nat) (ret : Option FieldType) (rm : Room) (G : va_G) (wc : va_W) (tys : List (ClassId × FieldType)) (av : List Value) (post : Int32 → Prop) : Prop :=
  Met l y (ws_ y cc maxL ret) rm (va_Pc av (fun U => va_P G vwCl wc U.heap ∧ va_K G vwCl tys U)) (vp_Si post) 0 0 (fun _ => False)
abbrev zQi {S : Type} (G : va_G) (tys : List (ClassId × FieldType)) (w : S → va_W) (post : Int32 → S → Prop) (A : Nat → Prop) : Array Value → State → Outcome → State → Prop := va_Qi post (fun u t => va_P G vwCl (w u) t.heap ∧ va_K G vwCl tys t ∧ va_D A (w u)) A
abbrev zQv {S : Type} (G : va_G) (tys : List (ClassId × FieldType)) (w : S → va_W) (post : S → Prop) (A : Nat → Prop) : Array Value → State → Outcome → State → Prop := va_Qv post (fun u t => va_P G vwCl (w u) t.heap ∧ va_K G vwCl tys t ∧ va_D A (w u)) A
/-- a method that writes: Qf says its end -/
abbrev zMU (l : Launch) (y : MethodName) (cc : ByteArray) (maxL : Nat) (ret : Option FieldType) (rm : Room) (G : va_G) (wc : va_W) (tys : List (ClassId × FieldType)) (av : List Value) (sz : Nat) (Qf : (Nat → Prop) → Array Value → State → Outcome → State → Prop) (mc ms : Nat) : Prop :=
  Met l y (ws_ y cc maxL ret) rm (va_Pc av (fun U => U.heap.size = sz ∧ va_P G vwCl wc U.heap ∧ va_K G vwCl tys U ∧ va_D (fun _ => True) wc)) (Qf (va_A wc sz)) mc ms (va_A wc sz)
theorem zro_enter {l : Launch} {y : MethodName} {cc : ByteArray} {maxL : Nat} {ret : Option FieldType} {rm : Room} {G : va_G} {wc : va_W} {tys : List (ClassId × FieldType)} {av : List Value} {post : Int32 → Prop} (hy : plainName y.cls = true) (hn : (lg_sl av).length ≤ maxL)
    (body : ∀ (p : Program) (e : Env) (s : State) (m : MethodId) (below : List Frame) (meth : Method) (c : Code), p.tables.exec = Jvm.exec → c.code = cc → meth.sig.returnType = ret → c.maxLocals = maxL → s.vm.findClass y.cls = some m.cls → meth.locks = false → (∀ w ∈ lw_all, w.before av.toArray s = true) → va_P G vwCl wc s.heap → va_K G vwCl tys s → ∀ ls : Array Slot, lv_has ls maxL (lv_args 0 av) →
      W p l e rm s m av.toArray below meth c s.heap [] 0 0 (MQ below (vp_Si post) av.toArray s 0 0 (fun _ => False)) (F0 m 0 ls [])) : zRO l y cc maxL ret rm G wc tys av post := by
  refine Met.ofW (cc := cc) (maxL := maxL) (ret := ret) hy rfl ?_
  intro p e s m args below meth c s₁ B hml hv
  obtain ⟨rfl, hP, hK⟩ := hv
  have hts := atoms_spec (ws := ws_ y cc maxL ret) B.pre
  have hl := lv_entry av (n := maxL) hn
  rw [lg_entry_eq]
  exact body p e s m below meth c B.exec B.bytes B.returns hml (findClass_of_methodNamed B.named) B.notSynchronized (fun w h => hts w (List.mem_cons_of_mem _ h)) hP hK _ hl
theorem zmu_enter {l : Launch} {y : MethodName} {cc : ByteArray} {maxL : Nat} {ret : Option FieldType} {rm : Room} {G : va_G} {wc : va_W} {tys : List (ClassId × FieldType)} {av : List Value} {sz : Nat} {Qf : (Nat → Prop) → Array Value → State → Outcome → State → Prop} {mc ms : Nat} (hy : plainName y.cls = true) (hn : (lg_sl av).length ≤ maxL)
    (body : ∀ (p : Program) (e : Env) (s : State) (m : MethodId) (below : List Frame) (meth : Method) (c : Code) (A : Nat → Prop) (H : Heap) (locs : List Loc), p.tables.exec = Jvm.exec → c.code = cc → meth.sig.returnType = ret → c.maxLocals = maxL → s.vm.findClass y.cls = some m.cls → meth.locks = false → meth.name = y.name → (∀ w ∈ lw_all, w.before av.toArray s = true) → (∀ q, s.heap.size ≤ q → A q) → va_P G vwCl wc H → va_K G vwCl tys s → va_D A wc → va_S A s.heap H locs → ∀ ls : Array Slot, lv_has ls maxL (lv_args 0 av) →
      W p l e rm s m av.toArray below meth c H locs 0 0 (MQ below (Qf A) av.toArray s mc ms A) (F0 m 0 ls [])) : zMU l y cc maxL ret rm G wc tys av sz Qf mc ms := by
  refine Met.ofW (cc := cc) (maxL := maxL) (ret := ret) hy rfl ?_
  intro p e s m args below meth c s₁ B hml hv
  obtain ⟨rfl, hsz, hP, hK, hD0⟩ := hv
  subst hsz
  have hts := atoms_spec (ws := ws_ y cc maxL ret) B.pre
  have hl := lv_entry av (n := maxL) hn
  rw [lg_entry_eq]
  exact body p e s m below meth c (va_A wc s.heap.size) s.heap [] B.exec B.bytes B.returns hml (findClass_of_methodNamed B.named) B.notSynchronized (name_of_methodNamed B.named B.method).1 (fun w h => hts w (List.mem_cons_of_mem _ h)) (fun q h => Or.inr h) hP hK hD0.self va_S.rf _ hl
section ZF
variable {p : Program} {l : Launch} {e : Env} {R : Room} {s : State} {m : MethodId} {args : Array Value} {below : List Frame} {meth : Method} {c : Code} {H : Heap} {locs : List Loc} {cells slots : Nat} {Q : State → Prop}
variable {cc : ByteArray} {pc : Nat} {ls : Array Slot} {rest st0 As : List Value} {G : va_G} {A : Nat → Prop} {a : Nat} {tys : List (ClassId × FieldType)} {wc : va_W} {H0 : Heap}
variable {y : MethodName} {b : ByteArray} {L nL n index q0 ci : Nat} {r0 : Option FieldType} {rm : Room} {own C : String} {q : vw_C} {fs : List Value}
theorem zc_ro {post : Int32 → Prop} (S : CallFix p m c cc nL s args lw_all own) (hM : zRO l y b L r0 rm G wc tys (.ref a :: As) post) (hw : GoodIn lw_all (wsV own index C y (ws_ y b L r0))) (hrm : rm.cells = 0 ∧ rm.slots = 0)
    (hd : y.cls = C ∧ y.cls ≠ "java/lang/invoke/MethodHandle" ∧ y.cls ≠ "java/lang/invoke/VarHandle" ∧ (parseMethodDescriptor y.desc).map (fun d => d.parameters.length) = some n) (hR : rm.frames + 1 ≤ R.frames ∧ 8 + (L + 11) + rm.locals ≤ R.locals) (hK : va_K G vwCl tys s) (hP : va_P G vwCl wc H) (q0 ci : Nat) (hc : vwCl[ci]? = some q) (hq : q.1 = C) (he : wc[q0]? = some (a, .inr (ci, fs)))
    (hst : st0 = As.reverse ++ .ref a :: rest) (hn : As.length = n) {lv : List (Nat × Value)} (hsize : lv_has ls nL lv) (hroom : (rest.map fun v => v.category).sum ≤ 8) (hf : cells ≤ R.cells ∧ slots ≤ R.slots) (hdg : decode cc pc = .ok (.invokevirtual index, 3))
    (kk : ∀ r : Int32, post r → W p l e R s m args below meth c H locs cells slots Q (F0 m (pc + 3) ls (.int r :: rest))) : W p l e R s m args below meth c H locs cells slots Q (F0 m pc ls st0) := by
  subst hst
  subst hq
  exact vp_callSi (W.runV (As := As) (rest := rest) S hM (cwV n S.2.2.2.2 hw rfl hrm.1 hrm.2 hd hR) ⟨fun a U g mk q => ⟨q.1, q.2.1, va_K.moved (u := U) (U := U.calling g mk a) (Vm.Alike.refl U.vm) q.2.2⟩, va_recv hK hP hc he, fun U hU hW => ⟨rfl, by rw [hU]; exact hP, va_K.moved hW.alike hK⟩⟩ rfl hn hsize.1 rfl (lv_room hroom) hdg hf) kk
theorem zc_st {post : Int32 → Prop} (S : CallFix p m c cc nL s args lw_all own) (hM : zRO l y b L r0 rm G [] [] As post) (hw : GoodIn lw_all (va_wsS own index y (ws_ y b L r0))) (hrm : rm.cells = 0 ∧ rm.slots = 0)
    (hd : y.cls ≠ "java/lang/invoke/MethodHandle" ∧ y.cls ≠ "java/lang/invoke/VarHandle" ∧ (parseMethodDescriptor y.desc).map (fun d => d.parameters.length) = some n) (hR : rm.frames + 1 ≤ R.frames ∧ 8 + (L + 11) + rm.locals ≤ R.locals) (hK : va_K G vwCl tys s)
    (hst : st0 = As.reverse ++ rest) (hn : As.length = n) {lv : List (Nat × Value)} (hsize : lv_has ls nL lv) (hroom : (rest.map fun v => v.category).sum ≤ 8) (hf : cells ≤ R.cells ∧ slots ≤ R.slots) (hdg : decode cc pc = .ok (.invokestatic index, 3))
    (kk : ∀ r : Int32, post r → W p l e R s m args below meth c H locs cells slots Q (F0 m (pc + 3) ls (.int r :: rest))) : W p l e R s m args below meth c H locs cells slots Q (F0 m pc ls st0) := by
  subst hst
  have hP0 : va_P G vwCl [] H := fun k q h => by simp at h
  have hK0 : va_K G vwCl [] s := hK.sub (tys' := []) [] rfl
  exact vp_callSi (W.runS (As := As) (rest := rest) S hM (va_cwS n S.2.2.2.2 hw rfl hrm.1 hrm.2 hd hR) ⟨fun a U g mk q => ⟨q.1, q.2.1, va_K.moved (u := U) (U := U.calling g mk a) (Vm.Alike.refl U.vm) q.2.2⟩, fun U hU hW => ⟨rfl, by rw [hU]; exact hP0, va_K.moved hW.alike hK0⟩⟩ rfl hn hsize.1 rfl (lv_room hroom) hdg hf) kk
theorem z_free {A : Nat → Prop} {wc : va_W} {H0 H : Heap} {locs : List Loc} (hD : va_D A wc) (hS : va_S A H0 H locs) (hA : ∀ q, H0.size ≤ q → A q) : ∀ q, va_A wc H.size q → A q := by
  intro q h
  rcases h with ⟨k, x, h⟩ | h
  · exact hD.2 k _ h
  · exact hA q (Nat.le_trans hS.1 h)
theorem zc_muv {S : Type} {w : S → va_W} {post : S → Prop} (F : CallFix p m c cc nL s args lw_all own) (hM : zMU l y b L r0 rm G wc tys (.ref a :: As) H.size (zQv G tys w post) 0 0) (hw : GoodIn lw_all (wsV own index C y (ws_ y b L r0))) (hrm : rm.cells = 0 ∧ rm.slots = 0)
    (hd : y.cls = C ∧ y.cls ≠ "java/lang/invoke/MethodHandle" ∧ y.cls ≠ "java/lang/invoke/VarHandle" ∧ (parseMethodDescriptor y.desc).map (fun d => d.parameters.length) = some n) (hR : rm.frames + 1 ≤ R.frames ∧ 8 + (L + 11) + rm.locals ≤ R.locals) (hK : va_K G vwCl tys s) (hP : va_P G vwCl wc H) (hD : va_D A wc) (hS : va_S A H0 H locs) (hA : ∀ q, H0.size ≤ q → A q) (q0 ci : Nat) (hc : vwCl[ci]? = some q) (hq : q.1 = C) (he : wc[q0]? = some (a, .inr (ci, fs)))
    (hst : st0 = As.reverse ++ .ref a :: rest) (hn : As.length = n) {lv : List (Nat × Value)} (hsize : lv_has ls nL lv) (hroom : (rest.map fun v => v.category).sum ≤ 8) (hf : cells ≤ R.cells ∧ slots ≤ R.slots) (hdg : decode cc pc = .ok (.invokevirtual index, 3))
    (kk : ∀ (u : S) (H1 : Heap) (locs1 : List Loc), post u → va_P G vwCl (w u) H1 → va_D A (w u) → va_S A H0 H1 locs1 → W p l e R s m args below meth c H1 locs1 cells slots Q (F0 m (pc + 3) ls rest)) : W p l e R s m args below meth c H locs cells slots Q (F0 m pc ls st0) := by
  subst hst
  subst hq
  have hFc := z_free hD hS hA
  refine va_callv (va_runV (As := As) (rest := rest) F hM (cwV n F.2.2.2.2 hw rfl hrm.1 hrm.2 hd hR) ⟨fun a U g mk q => ⟨q.1, q.2.1, q.2.2.1, va_K.moved (u := U) (U := U.calling g mk a) (Vm.Alike.refl U.vm) q.2.2.2.1, q.2.2.2.2⟩, va_recv hK hP hc he, fun U hU hW => ⟨rfl, by rw [hU], by rw [hU]; exact hP, va_K.moved hW.alike hK, hD.weaken (fun _ _ _ _ => trivial)⟩⟩ rfl hn hsize.1 rfl (lv_room hroom) hdg hf) hS (fun q _ h => hFc q h) hFc (fun u t H1 locs1 ht hvm hw1 hB hz1 hk1 hS1 => ?_)
  obtain ⟨hP1, hK1, hD1⟩ := hB
  rw [ht] at hP1
  exact kk u H1 locs1 hw1 hP1 (hD1.weaken (fun k q _ h => hFc q.1 h)) hS1
theorem zc_mui {S : Type} {w : S → va_W} {post : Int32 → S → Prop} (F : CallFix p m c cc nL s args lw_all own) (hM : zMU l y b L r0 rm G wc tys (.ref a :: As) H.size (zQi G tys w post) 0 0) (hw : GoodIn lw_all (wsV own index C y (ws_ y b L r0))) (hrm : rm.cells = 0 ∧ rm.slots = 0)
    (hd : y.cls = C ∧ y.cls ≠ "java/lang/invoke/MethodHandle" ∧ y.cls ≠ "java/lang/invoke/VarHandle" ∧ (parseMethodDescriptor y.desc).map (fun d => d.parameters.length) = some n) (hR : rm.frames + 1 ≤ R.frames ∧ 8 + (L + 11) + rm.locals ≤ R.locals) (hK : va_K G vwCl tys s) (hP : va_P G vwCl wc H) (hD : va_D A wc) (hS : va_S A H0 H locs) (hA : ∀ q, H0.size ≤ q → A q) (q0 ci : Nat) (hc : vwCl[ci]? = some q) (hq : q.1 = C) (he : wc[q0]? = some (a, .inr (ci, fs)))
    (hst : st0 = As.reverse ++ .ref a :: rest) (hn : As.length = n) {lv : List (Nat × Value)} (hsize : lv_has ls nL lv) (hroom : (rest.map fun v => v.category).sum ≤ 8) (hf : cells ≤ R.cells ∧ slots ≤ R.slots) (hdg : decode cc pc = .ok (.invokevirtual index, 3))
    (kk : ∀ (r : Int32) (u : S) (H1 : Heap) (locs1 : List Loc), post r u → va_P G vwCl (w u) H1 → va_D A (w u) → va_S A H0 H1 locs1 → W p l e R s m args below meth c H1 locs1 cells slots Q (F0 m (pc + 3) ls (.int r :: rest))) : W p l e R s m args below meth c H locs cells slots Q (F0 m pc ls st0) := by
  subst hst
  subst hq
  have hFc := z_free hD hS hA
  refine va_calli (va_runV (As := As) (rest := rest) F hM (cwV n F.2.2.2.2 hw rfl hrm.1 hrm.2 hd hR) ⟨fun a U g mk q => ⟨q.1, q.2.1, q.2.2.1, va_K.moved (u := U) (U := U.calling g mk a) (Vm.Alike.refl U.vm) q.2.2.2.1, q.2.2.2.2⟩, va_recv hK hP hc he, fun U hU hW => ⟨rfl, by rw [hU], by rw [hU]; exact hP, va_K.moved hW.alike hK, hD.weaken (fun _ _ _ _ => trivial)⟩⟩ rfl hn hsize.1 rfl (lv_room hroom) hdg hf) hS (fun q _ h => hFc q h) hFc (fun r u t H1 locs1 ht hvm hw1 hB hz1 hk1 hS1 => ?_)
  obtain ⟨hP1, hK1, hD1⟩ := hB
  rw [ht] at hP1
  exact kk r u H1 locs1 hw1 hP1 (hD1.weaken (fun k q _ h => hFc q.1 h)) hS1
theorem zret_roi {post : Int32 → Prop} {v : Int32} (hexec : p.tables.exec = Jvm.exec) (hb : c.code = cc) (hr : meth.sig.returnType = some .int) (hlocks : meth.locks = false) (hdg : decode cc pc = .ok (.ireturn, 1)) (hp : post v) :
    W p l e R s m args below meth c s.heap [] 0 0 (MQ below (vp_Si post) args s 0 0 (fun _ => False)) (F0 m pc ls [.int v]) :=
  W.iret (v := v) hexec hb hr (fun t ht hW => ⟨v, rfl, hp, ht⟩) (fun _ h => by cases h) hdg hlocks
theorem z_nar (v : Bool) : narrow .boolean (.int (zI (zb v))) = .int (zI (zb v)) := by cases v <;> rfl
theorem zret_roz {post : Int32 → Prop} {v : Int32} (hexec : p.tables.exec = Jvm.exec) (hb : c.code = cc) (hr : meth.sig.returnType = some .boolean) (hlocks : meth.locks = false) (hdg : decode cc pc = .ok (.ireturn, 1)) (hn : narrow .boolean (.int v) = .int v) (hp : post v) :
    W p l e R s m args below meth c s.heap [] 0 0 (MQ below (vp_Si post) args s 0 0 (fun _ => False)) (F0 m pc ls [.int v]) :=
  W.zret (v := v) hexec hb hr hn (fun t ht hW => ⟨v, rfl, hp, ht⟩) (fun _ h => by cases h) hdg hlocks
theorem zret_mui {S : Type} {w : S → va_W} {post : Int32 → S → Prop} {v : Int32} (hexec : p.tables.exec = Jvm.exec) (hb : c.code = cc) (hr : meth.sig.returnType = some .int) (hlocks : meth.locks = false) (hdg : decode cc pc = .ok (.ireturn, 1)) (u : S) (hP : va_P G vwCl (w u) H) (hK : va_K G vwCl tys s) (hD : va_D A (w u)) (hS : va_S A s.heap H locs) (hp : post v u) :
    W p l e R s m args below meth c H locs 0 0 (MQ below (zQi G tys w post A) args s 0 0 A) (F0 m pc ls [.int v]) :=
  W.iret (v := v) hexec hb hr (fun t ht hW => ⟨⟨v, u, rfl, hp, by rw [ht]; exact hP, va_K.moved hW.alike hK, hD⟩, hS.F ht⟩) hS.2.2 hdg hlocks
theorem zret_muv {S : Type} {w : S → va_W} {post : S → Prop} (hexec : p.tables.exec = Jvm.exec) (hb : c.code = cc) (hr : meth.sig.returnType = none) (hlocks : meth.locks = false) (hdg : decode cc pc = .ok (.return_, 1)) (u : S) (hP : va_P G vwCl (w u) H) (hK : va_K G vwCl tys s) (hD : va_D A (w u)) (hS : va_S A s.heap H locs) (hp : post u) :
    W p l e R s m args below meth c H locs 0 0 (MQ below (zQv G tys w post A) args s 0 0 A) (F0 m pc ls []) :=
  W.vret hexec hb hr (fun t ht hW => ⟨⟨u, rfl, hp, by rw [ht]; exact hP, va_K.moved hW.alike hK, hD⟩, hS.F ht⟩) hS.2.2 hdg hlocks
end ZF
end
section
/-! the mathematics: F says which of 256 blocks are free -/
def zCt (P : Nat → Bool) : Nat → Nat
  | 0 => 0
  | n + 1 => zCt P n + (if P n = true then 1 else 0)
def zRu (F : Nat → Bool) : Nat → Nat → Nat
  | 0, _ => 0
  | d + 1, b => if F b = true then zRu F d (b + 1) + 1 else 0
/-- how many blocks are free side by side from b on -/
def zRun (F : Nat → Bool) (b : Nat) : Nat := zRu F (256 - b) b
/-- a free extent begins at b -/
def zBg (F : Nat → Bool) (b : Nat) : Bool := F b && (b == 0 || !F (b - 1))
def zOk (F : Nat → Bool) : Prop := ∀ b, 256 ≤ b → F b = false
def zM (F : Nat → Bool) (f n : Nat) (v : Bool) : Nat → Bool := fun b => if f ≤ b ∧ b < f + n then v else F b
theorem zM_in {F : Nat → Bool} {f n b : Nat} {v : Bool} (h1 : f ≤ b) (h2 : b < f + n) : zM F f n v b = v := by
  unfold zM; rw [if_pos ⟨h1, h2⟩]
theorem zM_out {F : Nat → Bool} {f n b : Nat} {v : Bool} (h : b < f ∨ f + n ≤ b) : zM F f n v b = F b := by
  unfold zM; rw [if_neg (by omega)]
theorem zM_ok {F : Nat → Bool} {f n : Nat} {v : Bool} (h : zOk F) (hn : f + n ≤ 256) : zOk (zM F f n v) := by
  intro b hb
  rw [zM_out (by omega)]
  exact h b hb
theorem zM_zero (F : Nat → Bool) (f : Nat) (v : Bool) : zM F f 0 v = F := by
  funext b; exact zM_out (by omega)
theorem zM_succ (F : Nat → Bool) (f n : Nat) (v : Bool) : zV (zM F f n v) (f + n) v = zM F f (n + 1) v := by
  funext b
  unfold zV
  by_cases h : b = f + n
  · rw [if_pos h, zM_in (by omega) (by omega)]
  · rw [if_neg h]
    by_cases h1 : f ≤ b ∧ b < f + n
    · rw [zM_in h1.1 h1.2, zM_in h1.1 (by omega)]
    · rw [zM_out (by omega), zM_out (by omega)]
theorem zRu_le (F : Nat → Bool) : ∀ d b, zRu F d b ≤ d := by
  intro d
  induction d with
  | zero => intro b; exact Nat.le_refl 0
  | succ d ih =>
    intro b
    have := ih (b + 1)
    unfold zRu
    split <;> omega
theorem zRu_in (F : Nat → Bool) : ∀ d b i, i < zRu F d b → F (b + i) = true := by
  intro d
  induction d with
  | zero => intro b i h; exact absurd h (Nat.not_lt_zero _)
  | succ d ih =>
    intro b i h
    unfold zRu at h
    split at h
    · rename_i hb
      cases i with
      | zero => exact hb
      | succ i =>
        have := ih (b + 1) i (by omega)
        rw [show b + (i + 1) = b + 1 + i by omega]
        exact this
    · exact absurd h (Nat.not_lt_zero _)
theorem zRu_end (F : Nat → Bool) : ∀ d b, zRu F d b < d → F (b + zRu F d b) = false := by
  intro d
  induction d with
  | zero => intro b h; exact absurd h (Nat.not_lt_zero _)
  | succ d ih =>
    intro b h
    cases hb : F b with
    | true =>
      have e : zRu F (d + 1) b = zRu F d (b + 1) + 1 := by
        show (if F b = true then zRu F d (b + 1) + 1 else 0) = _
        rw [if_pos hb]
      rw [e] at h ⊢
      have := ih (b + 1) (by omega)
      rw [show b + (zRu F d (b + 1) + 1) = b + 1 + zRu F d (b + 1) by omega]
      exact this
    | false =>
      have e : zRu F (d + 1) b = 0 := by
        show (if F b = true then zRu F d (b + 1) + 1 else 0) = _
        rw [if_neg (by rw [hb]; decide)]
      rw [e]
      exact hb
theorem zRun_in {F : Nat → Bool} {b i : Nat} (h : i < zRun F b) : F (b + i) = true := zRu_in F _ _ _ h
theorem zRun_le {F : Nat → Bool} {b : Nat} (h : b ≤ 256) : b + zRun F b ≤ 256 := by
  have := zRu_le F (256 - b) b
  unfold zRun
  omega
theorem zRun_256 (F : Nat → Bool) (b : Nat) : zRun F b ≤ 256 := by
  have := zRu_le F (256 - b) b
  unfold zRun
  omega
theorem zRun_end {F : Nat → Bool} (hF : zOk F) (b : Nat) : F (b + zRun F b) = false := by
  by_cases h : zRun F b < 256 - b
  · exact zRu_end F _ _ h
  · have h1 := zRu_le F (256 - b) b
    exact hF _ (by unfold zRun at h ⊢; omega)
theorem zRun_eq {F : Nat → Bool} (hF : zOk F) {b n : Nat} (h1 : ∀ i, i < n → F (b + i) = true) (h2 : F (b + n) = false) : zRun F b = n := by
  rcases Nat.lt_trichotomy (zRun F b) n with h | h | h
  · have a := h1 _ h
    rw [zRun_end hF b] at a
    cases a
  · exact h
  · have a := zRun_in h
    rw [h2] at a
    cases a
theorem zRun_0 {F : Nat → Bool} (hF : zOk F) {b : Nat} (h : F b = false) : zRun F b = 0 := zRun_eq hF (fun i hi => absurd hi (Nat.not_lt_zero _)) h
theorem zRun_pos {F : Nat → Bool} (hF : zOk F) {b : Nat} (h : F b = true) : 1 ≤ zRun F b := by
  rcases Nat.eq_zero_or_pos (zRun F b) with h0 | h0
  · have a := zRun_end hF b
    rw [h0, Nat.add_zero, h] at a
    cases a
  · exact h0
theorem zRun_succ {F : Nat → Bool} (hF : zOk F) {b : Nat} (h : F b = true) : zRun F b = zRun F (b + 1) + 1 := by
  refine zRun_eq hF (fun i hi => ?_) ?_
  · cases i with
    | zero => exact h
    | succ i =>
      rw [show b + (i + 1) = b + 1 + i by omega]
      exact zRun_in (by omega)
  · rw [show b + (zRun F (b + 1) + 1) = b + 1 + zRun F (b + 1) by omega]
    exact zRun_end hF (b + 1)
theorem zBg_iff {F : Nat → Bool} {b : Nat} : zBg F b = true ↔ F b = true ∧ (b = 0 ∨ F (b - 1) = false) := by
  unfold zBg
  simp
theorem zBg_lt {F : Nat → Bool} (hF : zOk F) {b : Nat} (h : zBg F b = true) : b < 256 := by
  rcases Nat.lt_or_ge b 256 with q | q
  · exact q
  · have := (zBg_iff.mp h).1
    rw [hF b q] at this
    cases this
theorem zBg_pos {F : Nat → Bool} (hF : zOk F) {b : Nat} (h : zBg F b = true) : 1 ≤ zRun F b := zRun_pos hF (zBg_iff.mp h).1
/-- the extent that a free block is in -/
theorem z_start {F : Nat → Bool} : ∀ b, F b = true → ∃ f, f ≤ b ∧ zBg F f = true ∧ ∀ x, f ≤ x → x ≤ b → F x = true := by
  intro b
  induction b with
  | zero =>
    intro h
    exact ⟨0, Nat.le_refl 0, zBg_iff.mpr ⟨h, Or.inl rfl⟩, fun x _ h2 => by rw [Nat.le_zero.mp h2]; exact h⟩
  | succ b ih =>
    intro h
    cases hb : F b with
    | false => exact ⟨b + 1, Nat.le_refl _, zBg_iff.mpr ⟨h, Or.inr hb⟩, fun x h1 h2 => by rw [Nat.le_antisymm h2 h1]; exact h⟩
    | true =>
      obtain ⟨f, h1, h2, h3⟩ := ih hb
      refine ⟨f, by omega, h2, fun x h4 h5 => ?_⟩
      rcases Nat.lt_or_ge x (b + 1) with q | q
      · exact h3 x h4 (by omega)
      · rw [show x = b + 1 by omega]; exact h
theorem zCt_le (P : Nat → Bool) : ∀ n, zCt P n ≤ n := by
  intro n
  induction n with
  | zero => exact Nat.le_refl 0
  | succ n ih => unfold zCt; split <;> omega
theorem zCt_mono (P : Nat → Bool) {a b : Nat} (h : a ≤ b) : zCt P a ≤ zCt P b := by
  induction h with
  | refl => exact Nat.le_refl _
  | step _ ih => exact Nat.le_trans ih (Nat.le_add_right _ _)
theorem zCt_lt (P : Nat → Bool) {a b : Nat} (h : a < b) (ha : P a = true) : zCt P a < zCt P b := by
  have h1 : zCt P (a + 1) = zCt P a + 1 := by
    show zCt P a + (if P a = true then 1 else 0) = _
    rw [if_pos ha]
  have h2 := zCt_mono P (show a + 1 ≤ b from h)
  omega
theorem zCt_t {P : Nat → Bool} {n : Nat} (h : P n = true) : zCt P (n + 1) = zCt P n + 1 := by
  show zCt P n + (if P n = true then 1 else 0) = _
  rw [if_pos h]
theorem zCt_f {P : Nat → Bool} {n : Nat} (h : P n = false) : zCt P (n + 1) = zCt P n := by
  show zCt P n + (if P n = true then 1 else 0) = _
  rw [if_neg (by rw [h]; decide)]
  rfl
theorem zCt_congr {P Q : Nat → Bool} : ∀ n, (∀ x, x < n → P x = Q x) → zCt P n = zCt Q n := by
  intro n
  induction n with
  | zero => intro _; rfl
  | succ n ih =>
    intro h
    have h1 := ih (fun x hx => h x (by omega))
    have h2 := h n (by omega)
    unfold zCt
    rw [h1, h2]
theorem zCt_zero {P : Nat → Bool} : ∀ n, (∀ x, x < n → P x = false) → zCt P n = 0 := by
  intro n
  induction n with
  | zero => intro _; rfl
  | succ n ih =>
    intro h
    rw [zCt_f (h n (by omega))]
    exact ih (fun x hx => h x (by omega))
/-- an increasing list of all places of P below m: r of its places are below m -/
theorem zCt_enum {P : Nat → Bool} {p : Nat → Nat} {c : Nat} (hs : ∀ i j, i < j → j < c → p i < p j) : ∀ m, (∀ x, x < m → (P x = true ↔ ∃ i, i < c ∧ p i = x)) → ∀ r, r ≤ c → (∀ j, j < r → p j < m) → (∀ j, r ≤ j → j < c → m ≤ p j) → zCt P m = r := by
  intro m
  induction m with
  | zero =>
    intro _ r _ h1 _
    cases r with
    | zero => rfl
    | succ r => exact absurd (h1 0 (by omega)) (Nat.not_lt_zero _)
  | succ m ih =>
    intro hP r hr h1 h2
    have hP' : ∀ x, x < m → (P x = true ↔ ∃ i, i < c ∧ p i = x) := fun x hx => hP x (by omega)
    cases hm : P m with
    | true =>
      obtain ⟨i, hi, hpi⟩ := (hP m (by omega)).mp hm
      have hir : i < r := by
        rcases Nat.lt_or_ge i r with q | q
        · exact q
        · have := h2 i q hi; omega
      have hri : r = i + 1 := by
        rcases Nat.lt_or_ge (i + 1) r with q | q
        · have a := hs i (i + 1) (by omega) (by omega)
          have b := h1 (i + 1) q
          omega
        · omega
      have e := ih hP' i (by omega) (fun j hj => by have := hs j i hj hi; omega) (fun j hj hjc => by
        rcases Nat.eq_or_lt_of_le hj with q | q
        · rw [← q]; omega
        · have := hs i j q hjc; omega)
      rw [zCt_t hm, e, hri]
    | false =>
      have hne : ∀ j, j < c → p j ≠ m := fun j hj q => by
        have := (hP m (by omega)).mpr ⟨j, hj, q⟩
        rw [hm] at this
        cases this
      rw [zCt_f hm]
      refine ih hP' r hr (fun j hj => ?_) (fun j hj hjc => ?_)
      · have a := h1 j hj
        have b := hne j (by omega)
        omega
      · have a := h2 j hj hjc
        omega
theorem zCt_mark {F : Nat → Bool} {f n : Nat} (h : ∀ b, f ≤ b → b < f + n → F b = false) : ∀ m, zCt (zM F f n true) m = zCt F m + (min m (f + n) - f) := by
  intro m
  induction m with
  | zero => show 0 = 0 + (min 0 (f + n) - f); omega
  | succ m ih =>
    by_cases h1 : f ≤ m ∧ m < f + n
    · rw [zCt_t (zM_in h1.1 h1.2), zCt_f (h m h1.1 h1.2), ih]
      omega
    · cases hm : F m with
      | true =>
        rw [zCt_t (by rw [zM_out (by omega)]; exact hm), zCt_t hm, ih]
        omega
      | false =>
        rw [zCt_f (by rw [zM_out (by omega)]; exact hm), zCt_f hm, ih]
        omega
theorem zCt_unmark {F : Nat → Bool} {f n : Nat} (h : ∀ b, f ≤ b → b < f + n → F b = true) : ∀ m, zCt F m = zCt (zM F f n false) m + (min m (f + n) - f) := by
  intro m
  induction m with
  | zero => show 0 = 0 + (min 0 (f + n) - f); omega
  | succ m ih =>
    by_cases h1 : f ≤ m ∧ m < f + n
    · rw [zCt_f (zM_in h1.1 h1.2), zCt_t (h m h1.1 h1.2), ih]
      omega
    · cases hm : F m with
      | true =>
        rw [zCt_t (show zM F f n false m = true by rw [zM_out (by omega)]; exact hm), zCt_t hm, ih]
        omega
      | false =>
        rw [zCt_f (show zM F f n false m = false by rw [zM_out (by omega)]; exact hm), zCt_f hm, ih]
        omega
/-- what the index holds, against the map F -/
def zInv (F : Nat → Bool) (c : Nat) (p s k : Nat → Nat) (t : Nat) : Prop :=
  (∀ i, i < c → 1 ≤ s i ∧ p i + s i ≤ 256) ∧
  (∀ i j, i < j → j < c → p i + s i < p j) ∧
  (∀ b, F b = true ↔ ∃ i, i < c ∧ p i ≤ b ∧ b < p i + s i) ∧
  (∀ i j, i < j → j < c → k i < k j) ∧
  (∀ j, j < c → ∃ i, i < c ∧ k j = s i * 256 + p i) ∧
  (∀ i, i < c → ∃ j, j < c ∧ k j = s i * 256 + p i) ∧
  t = zCt F 256
section ZInv
variable {F : Nat → Bool} {c t : Nat} {p s k : Nat → Nat}
theorem zInv_2i (h : zInv F c p s k t) : ∀ i, i < c → 2 * i ≤ p i := by
  intro i
  induction i with
  | zero => intro _; omega
  | succ i ih =>
    intro hi
    have a := ih (by omega)
    have b := h.2.1 i (i + 1) (by omega) hi
    have d := h.1 i (by omega)
    omega
theorem zInv_c (h : zInv F c p s k t) : c ≤ 128 := by
  rcases Nat.lt_or_ge 128 c with q | q
  · have a := zInv_2i h 128 q
    have b := h.1 128 q
    omega
  · exact q
theorem zInv_p (h : zInv F c p s k t) : ∀ i, i < c → p i ≤ 255 := fun i hi => by have := h.1 i hi; omega
theorem zInv_pm (h : zInv F c p s k t) : ∀ i j, i < j → j < c → p i < p j := fun i j h1 h2 => by have a := h.2.1 i j h1 h2; omega
theorem zInv_k (h : zInv F c p s k t) : ∀ i, i < c → k i ≤ 65536 := fun j hj => by
  obtain ⟨i, hi, e⟩ := h.2.2.2.2.1 j hj
  have := h.1 i hi
  omega
theorem zInv_t (h : zInv F c p s k t) : t ≤ 256 := by
  rw [h.2.2.2.2.2.2]; exact zCt_le F 256
theorem zInv_ok (h : zInv F c p s k t) : zOk F := by
  intro b hb
  cases hF : F b with
  | false => rfl
  | true =>
    obtain ⟨i, hi, h1, h2⟩ := (h.2.2.1 b).mp hF
    have := h.1 i hi
    omega
theorem zInv_inj (h : zInv F c p s k t) {i j : Nat} (hi : i < c) (hj : j < c) (e : p i = p j) : i = j := by
  rcases Nat.lt_trichotomy i j with q | q | q
  · have := zInv_pm h i j q hj; omega
  · exact q
  · have := zInv_pm h j i q hi; omega
theorem zInv_at (h : zInv F c p s k t) {i j b : Nat} (hi : i < c) (hj : j < c) (h1 : p i ≤ b) (h2 : b < p i + s i) (h3 : p j ≤ b) (h4 : b < p j + s j) : i = j := by
  rcases Nat.lt_trichotomy i j with q | q | q
  · have := h.2.1 i j q hj; omega
  · exact q
  · have := h.2.1 j i q hi; omega
theorem zInv_in (h : zInv F c p s k t) {i b : Nat} (hi : i < c) (h1 : p i ≤ b) (h2 : b < p i + s i) : F b = true := (h.2.2.1 b).mpr ⟨i, hi, h1, h2⟩
theorem zInv_bg (h : zInv F c p s k t) (b : Nat) : zBg F b = true ↔ ∃ i, i < c ∧ p i = b := by
  rw [zBg_iff]
  constructor
  · rintro ⟨h1, h2⟩
    obtain ⟨i, hi, h3, h4⟩ := (h.2.2.1 b).mp h1
    refine ⟨i, hi, ?_⟩
    rcases Nat.eq_or_lt_of_le h3 with q | q
    · exact q
    · rcases h2 with h2 | h2
      · omega
      · have := zInv_in h hi (b := b - 1) (by omega) (by omega)
        rw [h2] at this
        cases this
  · rintro ⟨i, hi, rfl⟩
    have hs := h.1 i hi
    refine ⟨zInv_in h hi (Nat.le_refl _) (by omega), ?_⟩
    rcases Nat.eq_zero_or_pos (p i) with q | q
    · exact Or.inl q
    · refine Or.inr ?_
      cases hF : F (p i - 1) with
      | false => rfl
      | true =>
        obtain ⟨j, hj, h3, h4⟩ := (h.2.2.1 _).mp hF
        rcases Nat.lt_trichotomy i j with z | z | z
        · have := h.2.1 i j z hj; omega
        · subst z; omega
        · have := h.2.1 j i z hi; omega
theorem zInv_end (h : zInv F c p s k t) {i : Nat} (hi : i < c) : F (p i + s i) = false := by
  cases hF : F (p i + s i) with
  | false => rfl
  | true =>
    obtain ⟨j, hj, h3, h4⟩ := (h.2.2.1 _).mp hF
    rcases Nat.lt_trichotomy i j with z | z | z
    · have := h.2.1 i j z hj; omega
    · subst z; omega
    · have := h.2.1 j i z hi
      have := h.1 i hi
      omega
theorem zInv_run (h : zInv F c p s k t) {i : Nat} (hi : i < c) : zRun F (p i) = s i := by
  refine zRun_eq (zInv_ok h) (fun x hx => zInv_in h hi (by omega) (by omega)) (zInv_end h hi)
end ZInv
end
section
/-! a place comes in, a place goes out -/
def zSh (f : Nat → Nat) (j c : Nat) : Nat → Nat := fun x => if j < x ∧ x ≤ c then f (x - 1) else f x
def zLf (f : Nat → Nat) (i d : Nat) : Nat → Nat := fun x => if i ≤ x ∧ x < d then f (x + 1) else f x
theorem zSh_self (f : Nat → Nat) (c : Nat) : zSh f c c = f := by
  funext x; unfold zSh; rw [if_neg (by omega)]
theorem zSh_step (f : Nat → Nat) (j c : Nat) (h : j < c) : zU (zSh f (j + 1) c) (j + 1) (zSh f (j + 1) c j) = zSh f j c := by
  funext x
  unfold zU
  by_cases hx : x = j + 1
  · rw [if_pos hx]
    unfold zSh
    rw [if_neg (by omega), if_pos (by omega), hx]
    rfl
  · rw [if_neg hx]
    unfold zSh
    by_cases h1 : j + 1 < x ∧ x ≤ c
    · rw [if_pos h1, if_pos (by omega)]
    · rw [if_neg h1, if_neg (by omega)]
theorem zLf_self (f : Nat → Nat) (i : Nat) : zLf f i i = f := by
  funext x; unfold zLf; rw [if_neg (by omega)]
theorem zLf_step (f : Nat → Nat) (i j : Nat) (h : i ≤ j) : zU (zLf f i j) j (zLf f i j (j + 1)) = zLf f i (j + 1) := by
  funext x
  unfold zU
  by_cases hx : x = j
  · rw [if_pos hx]
    unfold zLf
    rw [if_neg (by omega), if_pos (by omega), hx]
  · rw [if_neg hx]
    unfold zLf
    by_cases h1 : i ≤ x ∧ x < j
    · rw [if_pos h1, if_pos (by omega)]
    · rw [if_neg h1, if_neg (by omega)]
/-- f with v put in at place i, c places before -/
def zIs (f : Nat → Nat) (i c v : Nat) : Nat → Nat := zU (zSh f i c) i v
theorem zIs_lt {f : Nat → Nat} {i c v x : Nat} (h : x < i) : zIs f i c v x = f x := by
  unfold zIs zU zSh; rw [if_neg (by omega), if_neg (by omega)]
theorem zIs_eq (f : Nat → Nat) (i c v : Nat) : zIs f i c v i = v := by
  unfold zIs zU; rw [if_pos rfl]
theorem zIs_gt {f : Nat → Nat} {i c v x : Nat} (h : i < x) (h2 : x ≤ c) : zIs f i c v x = f (x - 1) := by
  unfold zIs zU zSh; rw [if_neg (by omega), if_pos (by omega)]
theorem zLf_lt {f : Nat → Nat} {i d x : Nat} (h : x < i) : zLf f i d x = f x := by
  unfold zLf; rw [if_neg (by omega)]
theorem zLf_ge {f : Nat → Nat} {i d x : Nat} (h : i ≤ x) (h2 : x < d) : zLf f i d x = f (x + 1) := by
  unfold zLf; rw [if_pos (by omega)]
/-- a place of the longer list is the new one or an old one -/
theorem z_cases {i c x : Nat} (hx : x < c + 1) : x < i ∨ x = i ∨ (i < x ∧ x ≤ c ∧ x - 1 < c ∧ i ≤ x - 1) := by omega
section ZLaws
variable {F : Nat → Bool} {c t : Nat} {p s k : Nat → Nat}
theorem zInv_insert (h : zInv F c p s k t) {f n i r : Nat} (hn : 1 ≤ n) (hf : f + n ≤ 256) (hsep : ∀ b, f ≤ b + 1 → b ≤ f + n → F b = false)
    (hi : i ≤ c) (h1 : ∀ j, j < i → p j < f) (h2 : ∀ j, i ≤ j → j < c → f ≤ p j)
    (hr : r ≤ c) (h3 : ∀ j, j < r → k j < n * 256 + f) (h4 : ∀ j, r ≤ j → j < c → n * 256 + f ≤ k j) :
    zInv (zM F f n true) (c + 1) (zIs p i c f) (zIs s i c n) (zIs k r c (n * 256 + f)) (t + n) := by
  obtain ⟨hA, hB, hC, hD, hE, hG, hT⟩ := h
  have hlo : ∀ j, j < i → j < c → p j + s j < f := by
    intro j hj hjc
    have a := h1 j hj
    have b := hA j hjc
    rcases Nat.lt_or_ge (p j + s j) f with q | q
    · exact q
    · have z := (hC (f - 1)).mpr ⟨j, hjc, by omega, by omega⟩
      rw [hsep (f - 1) (by omega) (by omega)] at z
      cases z
  have hhi : ∀ j, i ≤ j → j < c → f + n < p j := by
    intro j hj hjc
    have a := h2 j hj hjc
    have b := hA j hjc
    rcases Nat.lt_or_ge (f + n) (p j) with q | q
    · exact q
    · have z := (hC (p j)).mpr ⟨j, hjc, Nat.le_refl _, by omega⟩
      rw [hsep (p j) (by omega) q] at z
      cases z
  have hne : ∀ j, j < c → p j ≠ f := by
    intro j hj q
    rcases Nat.lt_or_ge j i with z | z
    · have := h1 j z; omega
    · have := hhi j z hj; omega
  have hk : ∀ j, j < c → k j ≠ n * 256 + f := by
    intro j hj q
    obtain ⟨x, hx, e⟩ := hE j hj
    have a := hA x hx
    have b := hne x hx
    omega
  refine ⟨fun x hx => ?_, fun x y hxy hy => ?_, fun b => ?_, fun x y hxy hy => ?_, fun x hx => ?_, fun x hx => ?_, ?_⟩
  · rcases z_cases (i := i) hx with q | q | ⟨q1, q2, q3, q4⟩
    · rw [zIs_lt q, zIs_lt q]; exact hA x (by omega)
    · subst q; rw [zIs_eq, zIs_eq]; exact ⟨hn, hf⟩
    · rw [zIs_gt q1 q2, zIs_gt q1 q2]; exact hA _ q3
  · rcases z_cases (i := i) (show x < c + 1 by omega) with q | q | ⟨q1, q2, q3, q4⟩
    · rw [zIs_lt q, zIs_lt q]
      rcases z_cases (i := i) hy with z | z | ⟨z1, z2, z3, z4⟩
      · rw [zIs_lt z]; exact hB x y hxy (by omega)
      · subst z; rw [zIs_eq]; exact hlo x q (by omega)
      · rw [zIs_gt z1 z2]; exact hB x (y - 1) (by omega) z3
    · subst q
      rw [zIs_eq, zIs_eq]
      rcases z_cases (i := x) hy with z | z | ⟨z1, z2, z3, z4⟩
      · omega
      · omega
      · rw [zIs_gt z1 z2]; exact hhi (y - 1) z4 z3
    · rw [zIs_gt q1 q2, zIs_gt q1 q2]
      rcases z_cases (i := i) hy with z | z | ⟨z1, z2, z3, z4⟩
      · omega
      · omega
      · rw [zIs_gt z1 z2]; exact hB (x - 1) (y - 1) (by omega) z3
  · by_cases hb : f ≤ b ∧ b < f + n
    · rw [zM_in hb.1 hb.2]
      refine ⟨fun _ => ⟨i, by omega, by rw [zIs_eq]; exact hb.1, by rw [zIs_eq, zIs_eq]; exact hb.2⟩, fun _ => rfl⟩
    · rw [zM_out (by omega), hC b]
      constructor
      · rintro ⟨j, hj, e1, e2⟩
        rcases Nat.lt_or_ge j i with q | q
        · exact ⟨j, by omega, by rw [zIs_lt q]; exact e1, by rw [zIs_lt q, zIs_lt q]; exact e2⟩
        · refine ⟨j + 1, by omega, ?_, ?_⟩
          · rw [zIs_gt (by omega) (by omega)]; exact e1
          · rw [zIs_gt (by omega) (by omega), zIs_gt (by omega) (by omega)]; exact e2
      · rintro ⟨j, hj, e1, e2⟩
        rcases z_cases (i := i) hj with q | q | ⟨q1, q2, q3, q4⟩
        · rw [zIs_lt q] at e1 e2
          rw [zIs_lt q] at e2
          exact ⟨j, by omega, e1, e2⟩
        · subst q
          rw [zIs_eq] at e1 e2
          rw [zIs_eq] at e2
          exact absurd ⟨e1, e2⟩ hb
        · rw [zIs_gt q1 q2] at e1 e2
          rw [zIs_gt q1 q2] at e2
          exact ⟨j - 1, q3, e1, e2⟩
  · have hklo : ∀ j, j < r → j < c → k j < n * 256 + f := fun j hj _ => h3 j hj
    have hkhi : ∀ j, r ≤ j → j < c → n * 256 + f < k j := fun j hj hjc => by
      have a := h4 j hj hjc
      have b := hk j hjc
      omega
    rcases z_cases (i := r) (show x < c + 1 by omega) with q | q | ⟨q1, q2, q3, q4⟩
    · rw [zIs_lt q]
      rcases z_cases (i := r) hy with z | z | ⟨z1, z2, z3, z4⟩
      · rw [zIs_lt z]; exact hD x y hxy (by omega)
      · subst z; rw [zIs_eq]; exact hklo x q (by omega)
      · rw [zIs_gt z1 z2]; exact hD x (y - 1) (by omega) z3
    · subst q
      rw [zIs_eq]
      rcases z_cases (i := x) hy with z | z | ⟨z1, z2, z3, z4⟩
      · omega
      · omega
      · rw [zIs_gt z1 z2]; exact hkhi (y - 1) z4 z3
    · rw [zIs_gt q1 q2]
      rcases z_cases (i := r) hy with z | z | ⟨z1, z2, z3, z4⟩
      · omega
      · omega
      · rw [zIs_gt z1 z2]; exact hD (x - 1) (y - 1) (by omega) z3
  · have old : ∀ j, j < c → ∃ a, a < c + 1 ∧ k j = zIs s i c n a * 256 + zIs p i c f a := by
      intro j hj
      obtain ⟨a, ha, e⟩ := hE j hj
      rcases Nat.lt_or_ge a i with q | q
      · exact ⟨a, by omega, by rw [zIs_lt q, zIs_lt q]; exact e⟩
      · exact ⟨a + 1, by omega, by rw [zIs_gt (by omega) (by omega), zIs_gt (by omega) (by omega)]; exact e⟩
    rcases z_cases (i := r) hx with q | q | ⟨q1, q2, q3, q4⟩
    · rw [zIs_lt q]; exact old x (by omega)
    · subst q; rw [zIs_eq]; exact ⟨i, by omega, by rw [zIs_eq, zIs_eq]⟩
    · rw [zIs_gt q1 q2]; exact old _ q3
  · have old : ∀ j, j < c → ∃ a, a < c + 1 ∧ zIs k r c (n * 256 + f) a = s j * 256 + p j := by
      intro j hj
      obtain ⟨a, ha, e⟩ := hG j hj
      rcases Nat.lt_or_ge a r with q | q
      · exact ⟨a, by omega, by rw [zIs_lt q]; exact e⟩
      · exact ⟨a + 1, by omega, by rw [zIs_gt (by omega) (by omega)]; exact e⟩
    rcases z_cases (i := i) hx with q | q | ⟨q1, q2, q3, q4⟩
    · rw [zIs_lt q, zIs_lt q]; exact old x (by omega)
    · subst q; rw [zIs_eq, zIs_eq]; exact ⟨r, by omega, zIs_eq _ _ _ _⟩
    · rw [zIs_gt q1 q2, zIs_gt q1 q2]; exact old _ q3
  · rw [zCt_mark (fun b h5 h6 => hsep b (by omega) (by omega)), hT]
    omega
theorem zInv_remove (h : zInv F c p s k t) {i r : Nat} (hi : i < c) (hr : r < c) (hk : k r = s i * 256 + p i) :
    zInv (zM F (p i) (s i) false) (c - 1) (zLf p i (c - 1)) (zLf s i (c - 1)) (zLf k r (c - 1)) (t - s i) := by
  obtain ⟨hA, hB, hC, hD, hE, hG, hT⟩ := id h
  have hkeq : ∀ a b, a < c → b < c → s a * 256 + p a = s b * 256 + p b → a = b := by
    intro a b ha hb e
    have e1 := hA a ha
    have e2 := hA b hb
    exact zInv_inj h ha hb (by omega)
  refine ⟨fun x hx => ?_, fun x y hxy hy => ?_, fun b => ?_, fun x y hxy hy => ?_, fun x hx => ?_, fun x hx => ?_, ?_⟩
  · rcases Nat.lt_or_ge x i with q | q
    · rw [zLf_lt q, zLf_lt q]; exact hA x (by omega)
    · rw [zLf_ge q hx, zLf_ge q hx]; exact hA _ (by omega)
  · rcases Nat.lt_or_ge x i with q | q
    · rw [zLf_lt q, zLf_lt q]
      rcases Nat.lt_or_ge y i with z | z
      · rw [zLf_lt z]; exact hB x y hxy (by omega)
      · rw [zLf_ge z hy]; exact hB x (y + 1) (by omega) (by omega)
    · rw [zLf_ge q (by omega), zLf_ge q (by omega), zLf_ge (by omega) hy]
      exact hB (x + 1) (y + 1) (by omega) (by omega)
  · by_cases hb : p i ≤ b ∧ b < p i + s i
    · rw [zM_in hb.1 hb.2]
      refine ⟨fun z => Bool.noConfusion z, ?_⟩
      rintro ⟨j, hj, e1, e2⟩
      rcases Nat.lt_or_ge j i with q | q
      · rw [zLf_lt q] at e1 e2
        rw [zLf_lt q] at e2
        have := zInv_at h hi (show j < c by omega) hb.1 hb.2 e1 e2
        omega
      · rw [zLf_ge q hj] at e1 e2
        rw [zLf_ge q hj] at e2
        have := zInv_at h hi (show j + 1 < c by omega) hb.1 hb.2 e1 e2
        omega
    · rw [zM_out (by omega), hC b]
      constructor
      · rintro ⟨j, hj, e1, e2⟩
        rcases Nat.lt_trichotomy j i with q | q | q
        · exact ⟨j, by omega, by rw [zLf_lt q]; exact e1, by rw [zLf_lt q, zLf_lt q]; exact e2⟩
        · subst q; exact absurd ⟨e1, e2⟩ hb
        · have e9 : j - 1 + 1 = j := by omega
          refine ⟨j - 1, by omega, ?_, ?_⟩
          · rw [zLf_ge (by omega) (by omega), e9]; exact e1
          · rw [zLf_ge (by omega) (by omega), zLf_ge (by omega) (by omega), e9]; exact e2
      · rintro ⟨j, hj, e1, e2⟩
        rcases Nat.lt_or_ge j i with q | q
        · rw [zLf_lt q] at e1 e2
          rw [zLf_lt q] at e2
          exact ⟨j, by omega, e1, e2⟩
        · rw [zLf_ge q hj] at e1 e2
          rw [zLf_ge q hj] at e2
          exact ⟨j + 1, by omega, e1, e2⟩
  · rcases Nat.lt_or_ge x r with q | q
    · rw [zLf_lt q]
      rcases Nat.lt_or_ge y r with z | z
      · rw [zLf_lt z]; exact hD x y hxy (by omega)
      · rw [zLf_ge z hy]; exact hD x (y + 1) (by omega) (by omega)
    · rw [zLf_ge q (by omega), zLf_ge (by omega) hy]
      exact hD (x + 1) (y + 1) (by omega) (by omega)
  · have old : ∀ j, j < c → j ≠ r → ∃ a, a < c - 1 ∧ k j = zLf s i (c - 1) a * 256 + zLf p i (c - 1) a := by
      intro j hj hjr
      obtain ⟨a, ha, e⟩ := hE j hj
      have hai : a ≠ i := by
        intro z
        subst z
        rw [← hk] at e
        rcases Nat.lt_trichotomy j r with q | q | q
        · have := hD j r q hr; omega
        · exact hjr q
        · have := hD r j q hj; omega
      rcases Nat.lt_or_ge a i with q | q
      · exact ⟨a, by omega, by rw [zLf_lt q, zLf_lt q]; exact e⟩
      · have e9 : a - 1 + 1 = a := by omega
        exact ⟨a - 1, by omega, by rw [zLf_ge (by omega) (by omega), zLf_ge (by omega) (by omega), e9]; exact e⟩
    rcases Nat.lt_or_ge x r with q | q
    · rw [zLf_lt q]; exact old x (by omega) (by omega)
    · rw [zLf_ge q hx]; exact old (x + 1) (by omega) (by omega)
  · have old : ∀ j, j < c → j ≠ i → ∃ a, a < c - 1 ∧ zLf k r (c - 1) a = s j * 256 + p j := by
      intro j hj hji
      obtain ⟨a, ha, e⟩ := hG j hj
      have har : a ≠ r := by
        intro z
        subst z
        exact hji (hkeq j i hj hi (by rw [← e, hk]))
      rcases Nat.lt_or_ge a r with q | q
      · exact ⟨a, by omega, by rw [zLf_lt q]; exact e⟩
      · have e9 : a - 1 + 1 = a := by omega
        exact ⟨a - 1, by omega, by rw [zLf_ge (by omega) (by omega), e9]; exact e⟩
    rcases Nat.lt_or_ge x i with q | q
    · rw [zLf_lt q, zLf_lt q]; exact old x (by omega) (by omega)
    · rw [zLf_ge q hx, zLf_ge q hx]; exact old (x + 1) (by omega) (by omega)
  · have e := zCt_unmark (F := F) (f := p i) (n := s i) (fun b h5 h6 => zInv_in h hi h5 h6) 256
    have := hA i hi
    omega
/-- the empty index -/
theorem zInv_none (p s k : Nat → Nat) : zInv (fun _ => false) 0 p s k 0 := by
  refine ⟨fun i h => absurd h (Nat.not_lt_zero _), fun i j _ h => absurd h (Nat.not_lt_zero _), fun b => ⟨fun h => Bool.noConfusion h, fun ⟨i, h, _⟩ => absurd h (Nat.not_lt_zero _)⟩, fun i j _ h => absurd h (Nat.not_lt_zero _), fun i h => absurd h (Nat.not_lt_zero _), fun i h => absurd h (Nat.not_lt_zero _), ?_⟩
  exact (zCt_zero 256 (fun _ _ => rfl)).symm
end ZLaws
end
section
/-! more of the index's laws -/
abbrev zIv (F : Nat → Bool) (u : zSt) : Prop := zInv F u.1 u.2.1 u.2.2.1 u.2.2.2.1 u.2.2.2.2
section ZMore
variable {F : Nat → Bool} {c t : Nat} {p s k : Nat → Nat}
theorem zInv_find (h : zInv F c p s k t) {i r : Nat} (hi : i < c) (hr : r ≤ c) (h3 : ∀ j, j < r → k j < s i * 256 + p i) (h4 : ∀ j, r ≤ j → j < c → s i * 256 + p i ≤ k j) : r < c ∧ k r = s i * 256 + p i := by
  obtain ⟨j, hj, e⟩ := h.2.2.2.2.2.1 i hi
  rcases Nat.lt_trichotomy j r with q | q | q
  · have := h3 j q; omega
  · subst q; exact ⟨hj, e⟩
  · have a := h.2.2.2.1 r j q hj
    have b := h4 r (Nat.le_refl _) (by omega)
    omega
theorem zInv_st (h : zInv F c p s k t) {i : Nat} (hi : i < c) : s i ≤ t := by
  have e := zCt_unmark (F := F) (f := p i) (n := s i) (fun b h5 h6 => zInv_in h hi h5 h6) 256
  have a := h.1 i hi
  have b := h.2.2.2.2.2.2
  omega
theorem zInv_before (h : zInv F c p s k t) {i b : Nat} (hi : i < c) (e : p i = b + 1) : F b = false := by
  have a := (zBg_iff.mp ((zInv_bg h (p i)).mpr ⟨i, hi, rfl⟩)).2
  rcases a with a | a
  · omega
  · rw [e] at a; exact a
theorem zcut_sep1 (h : zInv F c p s k t) {i f : Nat} (hi : i < c) (h1 : p i ≤ f) (h2 : f < p i + s i) : ∀ b, p i ≤ b + 1 → b ≤ p i + (f - p i) → zM F (p i) (s i) false b = false := by
  intro b g1 g2
  rcases Nat.lt_or_ge b (p i) with q | q
  · rw [zM_out (by omega)]
    exact zInv_before h hi (by omega)
  · exact zM_in q (by omega)
theorem zcut_sep2 (h : zInv F c p s k t) {i f n : Nat} (hi : i < c) (h1 : p i ≤ f) (hn : 1 ≤ n) (h2 : f + n ≤ p i + s i) : ∀ b, f + n ≤ b + 1 → b ≤ f + n + (p i + s i - f - n) → zM F (p i) (s i) false b = false := by
  intro b g1 g2
  rcases Nat.lt_or_ge b (p i + s i) with q | q
  · exact zM_in (by omega) q
  · rw [zM_out (by omega), show b = p i + s i by omega]
    exact zInv_end h hi
theorem zcut_sep3 (h : zInv F c p s k t) {i f n : Nat} (hi : i < c) (h1 : p i ≤ f) (hn : 1 ≤ n) (h2 : f + n ≤ p i + s i) : ∀ b, f + n ≤ b + 1 → b ≤ f + n + (p i + s i - f - n) → zM (zM F (p i) (s i) false) (p i) (f - p i) true b = false := by
  intro b g1 g2
  rw [zM_out (by omega)]
  exact zcut_sep2 h hi h1 hn h2 b g1 g2
theorem zM_cut {F : Nat → Bool} {p s f n : Nat} (hin : ∀ b, p ≤ b → b < p + s → F b = true) (h1 : p ≤ f) (h2 : f + n ≤ p + s) : zM (zM (zM F p s false) p (f - p) true) (f + n) (p + s - f - n) true = zM F f n false := by
  funext b
  by_cases q1 : f + n ≤ b ∧ b < p + s
  · rw [zM_in (by omega) (by omega), zM_out (by omega), hin b (by omega) (by omega)]
  · rw [zM_out (by omega)]
    by_cases q2 : p ≤ b ∧ b < f
    · rw [zM_in (by omega) (by omega), zM_out (by omega), hin b (by omega) (by omega)]
    · rw [zM_out (by omega)]
      by_cases q3 : f ≤ b ∧ b < f + n
      · rw [zM_in (by omega) (by omega), zM_in (by omega) (by omega)]
      · rw [zM_out (by omega), zM_out (by omega)]
end ZMore
end
section
set_option maxHeartbeats 4000000 in
set_option maxRecDepth 100000 in
theorem metX0_badBlock (l : Launch) (G : va_G) {b : Int} (hb0 : zIn b) : zRO l yX0_badBlock cX0_badBlock 1 (some .boolean) ({ frames := 0, cells := 0, slots := 0, locals := 0 } : Room) G ([]) [] [.int (zI b)] (fun r => zB (b < 0 ∨ 256 ≤ b) r) := by
  refine zro_enter (by decide) (Nat.le_of_ble_eq_true rfl) ?_
  intro p e s m below meth c hx hb hr hml hown hlocks hts hP hK ls hl
  have hown : s.vm.findClass RX0 = some m.cls := hown
  have hl : lv_has ls 1 [(0, .int (zI b))] := hl
  refine lv_iload_n hx hb dX0_badBlock_0 rfl (lv_at hl 0 rfl) ?_
  refine zr_if_lt (tgt := 11) hx hb dX0_badBlock_1 (by decide) (by omega) (fun c1 => ?_) (fun c1 => ?_)
  · refine zr_iconstN 1 hx hb dX0_badBlock_11 rfl ?_
    refine lv_goto (tgt := 16) hx hb dX0_badBlock_12 (by decide) ?_
    exact zret_roz (v := zI ((1 : Nat) : Int)) hx hb hr hlocks dX0_badBlock_16 rfl (Or.inl ⟨rfl, by omega⟩)
  · refine lv_iload_n hx hb dX0_badBlock_4 rfl (lv_at hl 0 rfl) ?_
    refine zr_sipush ((256 : Nat) : Int) hx hb dX0_badBlock_5 (by decide) ?_
    refine zr_icmp_lt (tgt := 15) hx hb dX0_badBlock_8 (by decide) (by omega) (fun c8 => ?_) (fun c8 => ?_)
    · refine zr_iconstN 0 hx hb dX0_badBlock_15 rfl ?_
      exact zret_roz (v := zI ((0 : Nat) : Int)) hx hb hr hlocks dX0_badBlock_16 rfl (Or.inr ⟨rfl, by omega⟩)
    · refine zr_iconstN 1 hx hb dX0_badBlock_11 rfl ?_
      refine lv_goto (tgt := 16) hx hb dX0_badBlock_12 (by decide) ?_
      exact zret_roz (v := zI ((1 : Nat) : Int)) hx hb hr hlocks dX0_badBlock_16 rfl (Or.inl ⟨rfl, by omega⟩)
set_option maxHeartbeats 4000000 in
set_option maxRecDepth 100000 in
theorem metX0_badSize (l : Launch) (G : va_G) {b : Int} (hb0 : zIn b) : zRO l yX0_badSize cX0_badSize 1 (some .boolean) ({ frames := 0, cells := 0, slots := 0, locals := 0 } : Room) G ([]) [] [.int (zI b)] (fun r => zB (b < 1 ∨ 256 < b) r) := by
  refine zro_enter (by decide) (Nat.le_of_ble_eq_true rfl) ?_
  intro p e s m below meth c hx hb hr hml hown hlocks hts hP hK ls hl
  have hown : s.vm.findClass RX0 = some m.cls := hown
  have hl : lv_has ls 1 [(0, .int (zI b))] := hl
  refine lv_iload_n hx hb dX0_badSize_0 rfl (lv_at hl 0 rfl) ?_
  refine zr_iconstN 1 hx hb dX0_badSize_1 rfl ?_
  refine zr_icmp_lt (tgt := 12) hx hb dX0_badSize_2 (by decide) (by omega) (fun c2 => ?_) (fun c2 => ?_)
  · refine zr_iconstN 1 hx hb dX0_badSize_12 rfl ?_
    refine lv_goto (tgt := 17) hx hb dX0_badSize_13 (by decide) ?_
    exact zret_roz (v := zI ((1 : Nat) : Int)) hx hb hr hlocks dX0_badSize_17 rfl (Or.inl ⟨rfl, by omega⟩)
  · refine lv_iload_n hx hb dX0_badSize_5 rfl (lv_at hl 0 rfl) ?_
    refine zr_sipush ((256 : Nat) : Int) hx hb dX0_badSize_6 (by decide) ?_
    refine zr_icmp_le (tgt := 16) hx hb dX0_badSize_9 (by decide) (by omega) (fun c9 => ?_) (fun c9 => ?_)
    · refine zr_iconstN 0 hx hb dX0_badSize_16 rfl ?_
      exact zret_roz (v := zI ((0 : Nat) : Int)) hx hb hr hlocks dX0_badSize_17 rfl (Or.inr ⟨rfl, by omega⟩)
    · refine zr_iconstN 1 hx hb dX0_badSize_12 rfl ?_
      refine lv_goto (tgt := 17) hx hb dX0_badSize_13 (by decide) ?_
      exact zret_roz (v := zI ((1 : Nat) : Int)) hx hb hr hlocks dX0_badSize_17 rfl (Or.inl ⟨rfl, by omega⟩)
set_option maxHeartbeats 4000000 in
set_option maxRecDepth 100000 in
theorem metX0_beyond (l : Launch) (G : va_G) {f b : Int} (hf0 : 0 ≤ f ∧ f < 256) (hb0 : zIn b) : zRO l yX0_beyond cX0_beyond 2 (some .boolean) ({ frames := 1, cells := 0, slots := 0, locals := 20 } : Room) G ([]) [] [.int (zI f), .int (zI b)] (fun r => zB (b < 1 ∨ 256 < f + b) r) := by
  refine zro_enter (by decide) (Nat.le_of_ble_eq_true rfl) ?_
  intro p e s m below meth c hx hb hr hml hown hlocks hts hP hK ls hl
  have hown : s.vm.findClass RX0 = some m.cls := hown
  have hl : lv_has ls 2 [(0, .int (zI f)), (1, .int (zI b))] := hl
  refine lv_iload_n hx hb dX0_beyond_0 rfl (lv_at hl 1 rfl) ?_
  refine zc_st (n := 1) (As := [.int (zI b)]) (rest := []) ⟨hx, hb, hml, hown, hts⟩ (metX0_badSize l G hb0) (lw_S q62 q63 q15 q64) ⟨rfl, rfl⟩ (by decide +kernel) ⟨Nat.le_of_ble_eq_true rfl, Nat.le_of_ble_eq_true rfl⟩ hK rfl rfl hl (by decide) ⟨Nat.zero_le _, Nat.zero_le _⟩ dX0_beyond_1 (fun r1 h1 => ?_)
  rcases h1 with ⟨er1, h1⟩ | ⟨er1, h1⟩
  · subst er1
    refine zr_if_ne (tgt := 16) hx hb dX0_beyond_4 (by decide) (by omega) (fun c4 => ?_) (fun c4 => by exfalso; omega)
    refine zr_iconstN 1 hx hb dX0_beyond_16 rfl ?_
    refine lv_goto (tgt := 21) hx hb dX0_beyond_17 (by decide) ?_
    exact zret_roz (v := zI ((1 : Nat) : Int)) hx hb hr hlocks dX0_beyond_21 rfl (Or.inl ⟨rfl, by omega⟩)
  · subst er1
    refine zr_if_ne (tgt := 16) hx hb dX0_beyond_4 (by decide) (by omega) (fun c4 => by exfalso; omega) (fun c4 => ?_)
    refine lv_iload_n hx hb dX0_beyond_7 rfl (lv_at hl 0 rfl) ?_
    refine lv_iload_n hx hb dX0_beyond_8 rfl (lv_at hl 1 rfl) ?_
    refine zr_iadd hx hb dX0_beyond_9 ?_
    refine zr_sipush ((256 : Nat) : Int) hx hb dX0_beyond_10 (by decide) ?_
    refine zr_icmp_le (tgt := 20) hx hb dX0_beyond_13 (by decide) (by omega) (fun c13 => ?_) (fun c13 => ?_)
    · refine zr_iconstN 0 hx hb dX0_beyond_20 rfl ?_
      exact zret_roz (v := zI ((0 : Nat) : Int)) hx hb hr hlocks dX0_beyond_21 rfl (Or.inr ⟨rfl, by omega⟩)
    · refine zr_iconstN 1 hx hb dX0_beyond_16 rfl ?_
      refine lv_goto (tgt := 21) hx hb dX0_beyond_17 (by decide) ?_
      exact zret_roz (v := zI ((1 : Nat) : Int)) hx hb hr hlocks dX0_beyond_21 rfl (Or.inl ⟨rfl, by omega⟩)
set_option maxHeartbeats 4000000 in
set_option maxRecDepth 100000 in
theorem lpX0_firstFrom {p : Program} {l : Launch} {e : Env} {R : Room} {s : State} {m : MethodId} {args : Array Value} {below : List Frame} {meth : Method} {c : Code} {cells slots : Nat} {Q : State → Prop} {G : va_G} {H : Heap} {locs : List Loc} {h0 a1 a2 a3 : Nat} {dA : ClassId} {cn tn : Nat} {pp ss kk : Nat → Nat} (hx : p.tables.exec = Jvm.exec) (hb : c.code = cX0_firstFrom) (hown : s.vm.findClass RX0 = some m.cls) (hts : ∀ w ∈ lw_all, w.before args s = true) (hK : va_K G vwCl [(dA, .int)] s) (hP : va_P G vwCl (wX h0 a1 a2 a3 dA cn pp ss kk tn) H) {b : Nat} (hb0 : b ≤ 100000) (hc : cn ≤ 129) (hm : ∀ j, j < cn → pp j ≤ 65536) (hs : ∀ i j, i < j → j < cn → pp i < pp j)
    (kx : ∀ (i : Nat) (ls : Array Slot), i ≤ cn → (∀ j, j < i → pp j < b) → (∀ j, i ≤ j → j < cn → b ≤ pp j) → lv_has ls 5 [(0, .ref h0), (1, .int (zI ((b : Nat) : Int))), (2, .int (zI ((i : Nat) : Int)))] → W p l e R s m args below meth c H locs cells slots Q (F0 m 44 ls [])) :
    ∀ (n lo hi : Nat) (ls : Array Slot), hi - lo < n → lo ≤ hi → hi ≤ cn → (∀ j, j < lo → pp j < b) → (∀ j, hi ≤ j → j < cn → b ≤ pp j) → lv_has ls 5 [(0, .ref h0), (1, .int (zI ((b : Nat) : Int))), (2, .int (zI ((lo : Nat) : Int))), (3, .int (zI ((hi : Nat) : Int)))] → W p l e R s m args below meth c H locs cells slots Q (F0 m 7 ls []) := by
  intro n
  induction n with
  | zero => intro lo hi ls h; exact absurd h (Nat.not_lt_zero _)
  | succ n ih =>
    intro lo hi ls hn h1 h2 hlo hhi hl
    refine lv_iload_n hx hb dX0_firstFrom_7 rfl (lv_at hl 2 rfl) ?_
    refine lv_iload_n hx hb dX0_firstFrom_8 rfl (lv_at hl 3 rfl) ?_
    refine zr_icmp_ge (tgt := 44) hx hb dX0_firstFrom_9 (by decide) (by omega) (fun c9 => ?_) (fun c9 => ?_)
    · exact kx lo ls (by omega) hlo (fun j h3 h4 => hhi j (by omega) h4) (lv_sub hl [0, 1, 2] rfl)
    · refine lv_iload_n hx hb dX0_firstFrom_12 rfl (lv_at hl 2 rfl) ?_
      refine lv_iload_n hx hb dX0_firstFrom_13 rfl (lv_at hl 3 rfl) ?_
      refine zr_iaddN hx hb dX0_firstFrom_14 ?_
      refine zr_iconstN 2 hx hb dX0_firstFrom_15 rfl ?_
      refine zr_idivN hx hb (by omega) (by decide) (by decide) dX0_firstFrom_16 ?_
      refine lv_istore (lv' := [(4, .int (zI (((lo + hi) / 2 : Nat) : Int))), (0, .ref h0), (1, .int (zI ((b : Nat) : Int))), (2, .int (zI ((lo : Nat) : Int))), (3, .int (zI ((hi : Nat) : Int)))]) hx hb dX0_firstFrom_17 hl (by decide) rfl (fun ls hl => ?_)
      refine lv_aload_n hx hb dX0_firstFrom_19 rfl (lv_at hl 1 rfl) ?_
      refine va_get (D := G) (ci := 0) (v := .ref a1) (C := RX0) (T := TX0) (N := 5) hx hb hts in_X0 hown hK hP 0 rfl rfl 1 (by decide) (hts _ q42) (fun _ h9 => h9) rfl dX0_firstFrom_20 ?_
      refine lv_iload hx hb dX0_firstFrom_23 (lv_at hl 0 rfl) ?_
      refine zr_iald hx hb hK hP 1 0 rfl rfl ((lo + hi) / 2) rfl (by omega) (by decide) dX0_firstFrom_25 ?_
      refine lv_iload_n hx hb dX0_firstFrom_26 rfl (lv_at hl 2 rfl) ?_
      have hm9 := hm ((lo + hi) / 2) (by omega)
      refine zr_icmp_ge (tgt := 38) hx hb dX0_firstFrom_27 (by decide) (by omega) (fun c27 => ?_) (fun c27 => ?_)
      · refine lv_iload hx hb dX0_firstFrom_38 (lv_at hl 0 rfl) ?_
        refine lv_istore_n (lv' := [(3, .int (zI (((lo + hi) / 2 : Nat) : Int))), (4, .int (zI (((lo + hi) / 2 : Nat) : Int))), (0, .ref h0), (1, .int (zI ((b : Nat) : Int))), (2, .int (zI ((lo : Nat) : Int)))]) hx hb dX0_firstFrom_40 rfl hl (by decide) rfl (fun ls hl => ?_)
        refine lv_goto (tgt := 7) hx hb dX0_firstFrom_41 (by decide) ?_
        refine ih lo ((lo + hi) / 2) ls (by omega) (by omega) (by omega) hlo (fun j hj hjc => ?_) (lv_sub hl [2, 3, 4, 0] rfl)
        rcases Nat.eq_or_lt_of_le hj with q | q
        · rw [← q]; omega
        · have := hs _ j q hjc; omega
      · refine lv_iload hx hb dX0_firstFrom_30 (lv_at hl 0 rfl) ?_
        refine zr_iconstN 1 hx hb dX0_firstFrom_32 rfl ?_
        refine zr_iaddN hx hb dX0_firstFrom_33 ?_
        refine lv_istore_n (lv' := [(2, .int (zI ((((lo + hi) / 2) + 1 : Nat) : Int))), (4, .int (zI (((lo + hi) / 2 : Nat) : Int))), (0, .ref h0), (1, .int (zI ((b : Nat) : Int))), (3, .int (zI ((hi : Nat) : Int)))]) hx hb dX0_firstFrom_34 rfl hl (by decide) rfl (fun ls hl => ?_)
        refine lv_goto (tgt := 41) hx hb dX0_firstFrom_35 (by decide) ?_
        refine lv_goto (tgt := 7) hx hb dX0_firstFrom_41 (by decide) ?_
        refine ih ((lo + hi) / 2 + 1) hi ls (by omega) (by omega) (by omega) (fun j hj => ?_) hhi (lv_sub hl [2, 3, 0, 4] rfl)
        rcases Nat.lt_or_ge j ((lo + hi) / 2) with q | q
        · have := hs j _ q (by omega); omega
        · have e9 : j = (lo + hi) / 2 := by omega
          rw [e9]; omega
set_option maxHeartbeats 4000000 in
set_option maxRecDepth 100000 in
theorem metX0_firstFrom (l : Launch) (G : va_G) {h0 a1 a2 a3 : Nat} {dA : ClassId} {F : Nat → Bool} {cn tn : Nat} {pp ss kk : Nat → Nat} (hI : zInv F cn pp ss kk tn) {b : Nat} (hb0 : b ≤ 100000) : zRO l yX0_firstFrom cX0_firstFrom 5 (some .int) ({ frames := 0, cells := 0, slots := 0, locals := 0 } : Room) G (wX h0 a1 a2 a3 dA cn pp ss kk tn) [(dA, .int)] [.ref h0, .int (zI ((b : Nat) : Int))] (fun r => ∃ i : Nat, i ≤ cn ∧ r = zI (i : Int) ∧ (∀ j, j < i → pp j < b) ∧ (∀ j, i ≤ j → j < cn → b ≤ pp j)) := by
  refine zro_enter (by decide) (Nat.le_of_ble_eq_true rfl) ?_
  intro p e s m below meth c hx hb hr hml hown hlocks hts hP hK ls hl
  have hown : s.vm.findClass RX0 = some m.cls := hown
  have hl : lv_has ls 5 [(0, .ref h0), (1, .int (zI ((b : Nat) : Int)))] := hl
  have hc128 := zInv_c hI
  refine zr_iconstN 0 hx hb dX0_firstFrom_0 rfl ?_
  refine lv_istore_n (lv' := [(2, .int (zI ((0 : Nat) : Int))), (0, .ref h0), (1, .int (zI ((b : Nat) : Int)))]) hx hb dX0_firstFrom_1 rfl hl (by decide) rfl (fun ls hl => ?_)
  refine lv_aload_n hx hb dX0_firstFrom_2 rfl (lv_at hl 1 rfl) ?_
  refine va_get (D := G) (ci := 0) (v := .int (zI ((cn : Nat) : Int))) (C := RX0) (T := TX0) (N := 5) hx hb hts in_X0 hown hK hP 0 rfl rfl 0 (by decide) (hts _ q41) (fun _ h9 => h9) rfl dX0_firstFrom_3 ?_
  refine lv_istore_n (lv' := [(3, .int (zI ((cn : Nat) : Int))), (2, .int (zI ((0 : Nat) : Int))), (0, .ref h0), (1, .int (zI ((b : Nat) : Int)))]) hx hb dX0_firstFrom_6 rfl hl (by decide) rfl (fun ls hl => ?_)
  refine lpX0_firstFrom hx hb hown hts hK hP hb0 (by omega) (fun j h => Nat.le_trans (zInv_p hI j h) (by decide)) (zInv_pm hI) (fun i ls hi1 hi2 hi3 hl => ?_) (cn + 1) 0 cn ls (by omega) (by omega) (by omega) (fun j hj => absurd hj (Nat.not_lt_zero _)) (fun j h1 h2 => absurd h2 (by omega)) (lv_sub hl [2, 3, 1, 0] rfl)
  refine lv_iload_n hx hb dX0_firstFrom_44 rfl (lv_at hl 2 rfl) ?_
  exact zret_roi (v := zI ((i : Nat) : Int)) hx hb hr hlocks dX0_firstFrom_45 ⟨i, hi1, rfl, hi2, hi3⟩
set_option maxHeartbeats 4000000 in
set_option maxRecDepth 100000 in
theorem lpX0_keyFrom {p : Program} {l : Launch} {e : Env} {R : Room} {s : State} {m : MethodId} {args : Array Value} {below : List Frame} {meth : Method} {c : Code} {cells slots : Nat} {Q : State → Prop} {G : va_G} {H : Heap} {locs : List Loc} {h0 a1 a2 a3 : Nat} {dA : ClassId} {cn tn : Nat} {pp ss kk : Nat → Nat} (hx : p.tables.exec = Jvm.exec) (hb : c.code = cX0_keyFrom) (hown : s.vm.findClass RX0 = some m.cls) (hts : ∀ w ∈ lw_all, w.before args s = true) (hK : va_K G vwCl [(dA, .int)] s) (hP : va_P G vwCl (wX h0 a1 a2 a3 dA cn pp ss kk tn) H) {b : Nat} (hb0 : b ≤ 100000) (hc : cn ≤ 129) (hm : ∀ j, j < cn → kk j ≤ 65536) (hs : ∀ i j, i < j → j < cn → kk i < kk j)
    (kx : ∀ (i : Nat) (ls : Array Slot), i ≤ cn → (∀ j, j < i → kk j < b) → (∀ j, i ≤ j → j < cn → b ≤ kk j) → lv_has ls 5 [(0, .ref h0), (1, .int (zI ((b : Nat) : Int))), (2, .int (zI ((i : Nat) : Int)))] → W p l e R s m args below meth c H locs cells slots Q (F0 m 44 ls [])) :
    ∀ (n lo hi : Nat) (ls : Array Slot), hi - lo < n → lo ≤ hi → hi ≤ cn → (∀ j, j < lo → kk j < b) → (∀ j, hi ≤ j → j < cn → b ≤ kk j) → lv_has ls 5 [(0, .ref h0), (1, .int (zI ((b : Nat) : Int))), (2, .int (zI ((lo : Nat) : Int))), (3, .int (zI ((hi : Nat) : Int)))] → W p l e R s m args below meth c H locs cells slots Q (F0 m 7 ls []) := by
  intro n
  induction n with
  | zero => intro lo hi ls h; exact absurd h (Nat.not_lt_zero _)
  | succ n ih =>
    intro lo hi ls hn h1 h2 hlo hhi hl
    refine lv_iload_n hx hb dX0_keyFrom_7 rfl (lv_at hl 2 rfl) ?_
    refine lv_iload_n hx hb dX0_keyFrom_8 rfl (lv_at hl 3 rfl) ?_
    refine zr_icmp_ge (tgt := 44) hx hb dX0_keyFrom_9 (by decide) (by omega) (fun c9 => ?_) (fun c9 => ?_)
    · exact kx lo ls (by omega) hlo (fun j h3 h4 => hhi j (by omega) h4) (lv_sub hl [0, 1, 2] rfl)
    · refine lv_iload_n hx hb dX0_keyFrom_12 rfl (lv_at hl 2 rfl) ?_
      refine lv_iload_n hx hb dX0_keyFrom_13 rfl (lv_at hl 3 rfl) ?_
      refine zr_iaddN hx hb dX0_keyFrom_14 ?_
      refine zr_iconstN 2 hx hb dX0_keyFrom_15 rfl ?_
      refine zr_idivN hx hb (by omega) (by decide) (by decide) dX0_keyFrom_16 ?_
      refine lv_istore (lv' := [(4, .int (zI (((lo + hi) / 2 : Nat) : Int))), (0, .ref h0), (1, .int (zI ((b : Nat) : Int))), (2, .int (zI ((lo : Nat) : Int))), (3, .int (zI ((hi : Nat) : Int)))]) hx hb dX0_keyFrom_17 hl (by decide) rfl (fun ls hl => ?_)
      refine lv_aload_n hx hb dX0_keyFrom_19 rfl (lv_at hl 1 rfl) ?_
      refine va_get (D := G) (ci := 0) (v := .ref a3) (C := RX0) (T := TX0) (N := 5) hx hb hts in_X0 hown hK hP 0 rfl rfl 3 (by decide) (hts _ q44) (fun _ h9 => h9) rfl dX0_keyFrom_20 ?_
      refine lv_iload hx hb dX0_keyFrom_23 (lv_at hl 0 rfl) ?_
      refine zr_iald hx hb hK hP 3 0 rfl rfl ((lo + hi) / 2) rfl (by omega) (by decide) dX0_keyFrom_25 ?_
      refine lv_iload_n hx hb dX0_keyFrom_26 rfl (lv_at hl 2 rfl) ?_
      have hm9 := hm ((lo + hi) / 2) (by omega)
      refine zr_icmp_ge (tgt := 38) hx hb dX0_keyFrom_27 (by decide) (by omega) (fun c27 => ?_) (fun c27 => ?_)
      · refine lv_iload hx hb dX0_keyFrom_38 (lv_at hl 0 rfl) ?_
        refine lv_istore_n (lv' := [(3, .int (zI (((lo + hi) / 2 : Nat) : Int))), (4, .int (zI (((lo + hi) / 2 : Nat) : Int))), (0, .ref h0), (1, .int (zI ((b : Nat) : Int))), (2, .int (zI ((lo : Nat) : Int)))]) hx hb dX0_keyFrom_40 rfl hl (by decide) rfl (fun ls hl => ?_)
        refine lv_goto (tgt := 7) hx hb dX0_keyFrom_41 (by decide) ?_
        refine ih lo ((lo + hi) / 2) ls (by omega) (by omega) (by omega) hlo (fun j hj hjc => ?_) (lv_sub hl [2, 3, 4, 0] rfl)
        rcases Nat.eq_or_lt_of_le hj with q | q
        · rw [← q]; omega
        · have := hs _ j q hjc; omega
      · refine lv_iload hx hb dX0_keyFrom_30 (lv_at hl 0 rfl) ?_
        refine zr_iconstN 1 hx hb dX0_keyFrom_32 rfl ?_
        refine zr_iaddN hx hb dX0_keyFrom_33 ?_
        refine lv_istore_n (lv' := [(2, .int (zI ((((lo + hi) / 2) + 1 : Nat) : Int))), (4, .int (zI (((lo + hi) / 2 : Nat) : Int))), (0, .ref h0), (1, .int (zI ((b : Nat) : Int))), (3, .int (zI ((hi : Nat) : Int)))]) hx hb dX0_keyFrom_34 rfl hl (by decide) rfl (fun ls hl => ?_)
        refine lv_goto (tgt := 41) hx hb dX0_keyFrom_35 (by decide) ?_
        refine lv_goto (tgt := 7) hx hb dX0_keyFrom_41 (by decide) ?_
        refine ih ((lo + hi) / 2 + 1) hi ls (by omega) (by omega) (by omega) (fun j hj => ?_) hhi (lv_sub hl [2, 3, 0, 4] rfl)
        rcases Nat.lt_or_ge j ((lo + hi) / 2) with q | q
        · have := hs j _ q (by omega); omega
        · have e9 : j = (lo + hi) / 2 := by omega
          rw [e9]; omega
set_option maxHeartbeats 4000000 in
set_option maxRecDepth 100000 in
theorem metX0_keyFrom (l : Launch) (G : va_G) {h0 a1 a2 a3 : Nat} {dA : ClassId} {F : Nat → Bool} {cn tn : Nat} {pp ss kk : Nat → Nat} (hI : zInv F cn pp ss kk tn) {b : Nat} (hb0 : b ≤ 100000) : zRO l yX0_keyFrom cX0_keyFrom 5 (some .int) ({ frames := 0, cells := 0, slots := 0, locals := 0 } : Room) G (wX h0 a1 a2 a3 dA cn pp ss kk tn) [(dA, .int)] [.ref h0, .int (zI ((b : Nat) : Int))] (fun r => ∃ i : Nat, i ≤ cn ∧ r = zI (i : Int) ∧ (∀ j, j < i → kk j < b) ∧ (∀ j, i ≤ j → j < cn → b ≤ kk j)) := by
  refine zro_enter (by decide) (Nat.le_of_ble_eq_true rfl) ?_
  intro p e s m below meth c hx hb hr hml hown hlocks hts hP hK ls hl
  have hown : s.vm.findClass RX0 = some m.cls := hown
  have hl : lv_has ls 5 [(0, .ref h0), (1, .int (zI ((b : Nat) : Int)))] := hl
  have hc128 := zInv_c hI
  refine zr_iconstN 0 hx hb dX0_keyFrom_0 rfl ?_
  refine lv_istore_n (lv' := [(2, .int (zI ((0 : Nat) : Int))), (0, .ref h0), (1, .int (zI ((b : Nat) : Int)))]) hx hb dX0_keyFrom_1 rfl hl (by decide) rfl (fun ls hl => ?_)
  refine lv_aload_n hx hb dX0_keyFrom_2 rfl (lv_at hl 1 rfl) ?_
  refine va_get (D := G) (ci := 0) (v := .int (zI ((cn : Nat) : Int))) (C := RX0) (T := TX0) (N := 5) hx hb hts in_X0 hown hK hP 0 rfl rfl 0 (by decide) (hts _ q41) (fun _ h9 => h9) rfl dX0_keyFrom_3 ?_
  refine lv_istore_n (lv' := [(3, .int (zI ((cn : Nat) : Int))), (2, .int (zI ((0 : Nat) : Int))), (0, .ref h0), (1, .int (zI ((b : Nat) : Int)))]) hx hb dX0_keyFrom_6 rfl hl (by decide) rfl (fun ls hl => ?_)
  refine lpX0_keyFrom hx hb hown hts hK hP hb0 (by omega) (zInv_k hI) hI.2.2.2.1 (fun i ls hi1 hi2 hi3 hl => ?_) (cn + 1) 0 cn ls (by omega) (by omega) (by omega) (fun j hj => absurd hj (Nat.not_lt_zero _)) (fun j h1 h2 => absurd h2 (by omega)) (lv_sub hl [2, 3, 1, 0] rfl)
  refine lv_iload_n hx hb dX0_keyFrom_44 rfl (lv_at hl 2 rfl) ?_
  exact zret_roi (v := zI ((i : Nat) : Int)) hx hb hr hlocks dX0_keyFrom_45 ⟨i, hi1, rfl, hi2, hi3⟩
end
section
set_option maxHeartbeats 4000000 in
set_option maxRecDepth 100000 in
theorem lpX0_insertA {p : Program} {l : Launch} {e : Env} {R : Room} {s : State} {m : MethodId} {args : Array Value} {below : List Frame} {meth : Method} {c : Code} {cells slots : Nat} {Q : State → Prop} {G : va_G} {H0 : Heap} {A : Nat → Prop} {h0 a1 a2 a3 : Nat} {dA : ClassId} {cn tn : Nat} {pp ss kk : Nat → Nat} {f nn i r : Nat} (hx : p.tables.exec = Jvm.exec) (hb : c.code = cX0_insert) (hown : s.vm.findClass RX0 = some m.cls) (hts : ∀ w ∈ lw_all, w.before args s = true) (hK : va_K G vwCl [(dA, .int)] s)
    (hc : cn ≤ 128)
    (kx : ∀ (H : Heap) (locs : List Loc) (ls : Array Slot), va_P G vwCl (wX h0 a1 a2 a3 dA cn (zSh pp i cn) (zSh ss i cn) kk tn) H → va_D A (wX h0 a1 a2 a3 dA cn (zSh pp i cn) (zSh ss i cn) kk tn) → va_S A H0 H locs → lv_has ls 6 [(0, .ref h0), (1, .int (zI ((f : Nat) : Int))), (2, .int (zI ((nn : Nat) : Int))), (3, .int (zI ((i : Nat) : Int))), (4, .int (zI ((r : Nat) : Int)))] → W p l e R s m args below meth c H locs cells slots Q (F0 m 69 ls [])) :
    ∀ (d : Nat) (j : Nat) (H : Heap) (locs : List Loc) (ls : Array Slot), j - i < d → i ≤ j → j ≤ cn → va_P G vwCl (wX h0 a1 a2 a3 dA cn (zSh pp j cn) (zSh ss j cn) kk tn) H → va_D A (wX h0 a1 a2 a3 dA cn (zSh pp j cn) (zSh ss j cn) kk tn) → va_S A H0 H locs → lv_has ls 6 [(0, .ref h0), (1, .int (zI ((f : Nat) : Int))), (2, .int (zI ((nn : Nat) : Int))), (3, .int (zI ((i : Nat) : Int))), (4, .int (zI ((r : Nat) : Int))), (5, .int (zI ((j : Nat) : Int)))] → W p l e R s m args below meth c H locs cells slots Q (F0 m 25 ls []) := by
  intro d
  induction d with
  | zero => intro j H locs ls h; exact absurd h (Nat.not_lt_zero _)
  | succ d ih =>
    intro j H locs ls hd h1 h2 hP hD hS hl
    refine lv_iload hx hb dX0_insert_25 (lv_at hl 5 rfl) ?_
    refine lv_iload_n hx hb dX0_insert_27 rfl (lv_at hl 3 rfl) ?_
    refine zr_icmp_le (tgt := 69) hx hb dX0_insert_28 (by decide) (by omega) (fun c28 => ?_) (fun c28 => ?_)
    · have e9 : j = i := by omega
      subst e9
      exact kx H locs ls hP hD hS (lv_sub hl [0, 1, 2, 3, 4] rfl)
    · obtain ⟨j, rfl⟩ : ∃ y, j = y + 1 := ⟨j - 1, by omega⟩
      refine lv_aload_n hx hb dX0_insert_31 rfl (lv_at hl 0 rfl) ?_
      refine va_get (D := G) (ci := 0) (v := .ref a1) (C := RX0) (T := TX0) (N := 5) hx hb hts in_X0 hown hK hP 0 rfl rfl 1 (by decide) (hts _ q42) (fun _ h9 => h9) rfl dX0_insert_32 ?_
      refine lv_iload hx hb dX0_insert_35 (lv_at hl 5 rfl) ?_
      refine lv_aload_n hx hb dX0_insert_37 rfl (lv_at hl 0 rfl) ?_
      refine va_get (D := G) (ci := 0) (v := .ref a1) (C := RX0) (T := TX0) (N := 5) hx hb hts in_X0 hown hK hP 0 rfl rfl 1 (by decide) (hts _ q42) (fun _ h9 => h9) rfl dX0_insert_38 ?_
      refine lv_iload hx hb dX0_insert_41 (lv_at hl 5 rfl) ?_
      refine zr_iconstN 1 hx hb dX0_insert_43 rfl ?_
      refine zr_isub hx hb dX0_insert_44 ?_
      refine zr_top (y := ((j : Nat) : Int)) (by omega) ?_
      refine zr_iald hx hb hK hP 1 0 rfl rfl j rfl (by omega) (by decide) dX0_insert_45 ?_
      refine zr_iast hx hb hK hP hD hS 1 0 rfl rfl (j + 1) ((zSh pp (j + 1) cn) j) rfl rfl (by omega) (by decide) dX0_insert_46 (fun H locs hP hD hS => ?_)
      have hP : va_P G vwCl (wX h0 a1 a2 a3 dA cn (zU (zSh pp (j + 1) cn) (j + 1) ((zSh pp (j + 1) cn) j)) (zSh ss (j + 1) cn) kk tn) H := hP
      have hD : va_D A (wX h0 a1 a2 a3 dA cn (zU (zSh pp (j + 1) cn) (j + 1) ((zSh pp (j + 1) cn) j)) (zSh ss (j + 1) cn) kk tn) := hD
      rw [zSh_step pp j cn (by omega)] at hP hD
      refine lv_aload_n hx hb dX0_insert_47 rfl (lv_at hl 0 rfl) ?_
      refine va_get (D := G) (ci := 0) (v := .ref a2) (C := RX0) (T := TX0) (N := 5) hx hb hts in_X0 hown hK hP 0 rfl rfl 2 (by decide) (hts _ q43) (fun _ h9 => h9) rfl dX0_insert_48 ?_
      refine lv_iload hx hb dX0_insert_51 (lv_at hl 5 rfl) ?_
      refine lv_aload_n hx hb dX0_insert_53 rfl (lv_at hl 0 rfl) ?_
      refine va_get (D := G) (ci := 0) (v := .ref a2) (C := RX0) (T := TX0) (N := 5) hx hb hts in_X0 hown hK hP 0 rfl rfl 2 (by decide) (hts _ q43) (fun _ h9 => h9) rfl dX0_insert_54 ?_
      refine lv_iload hx hb dX0_insert_57 (lv_at hl 5 rfl) ?_
      refine zr_iconstN 1 hx hb dX0_insert_59 rfl ?_
      refine zr_isub hx hb dX0_insert_60 ?_
      refine zr_top (y := ((j : Nat) : Int)) (by omega) ?_
      refine zr_iald hx hb hK hP 2 0 rfl rfl j rfl (by omega) (by decide) dX0_insert_61 ?_
      refine zr_iast hx hb hK hP hD hS 2 0 rfl rfl (j + 1) ((zSh ss (j + 1) cn) j) rfl rfl (by omega) (by decide) dX0_insert_62 (fun H locs hP hD hS => ?_)
      have hP : va_P G vwCl (wX h0 a1 a2 a3 dA cn (zSh pp j cn) (zU (zSh ss (j + 1) cn) (j + 1) ((zSh ss (j + 1) cn) j)) kk tn) H := hP
      have hD : va_D A (wX h0 a1 a2 a3 dA cn (zSh pp j cn) (zU (zSh ss (j + 1) cn) (j + 1) ((zSh ss (j + 1) cn) j)) kk tn) := hD
      rw [zSh_step ss j cn (by omega)] at hP hD
      refine zr_iinc hx hb ((j : Nat) : Int) (lv' := [(5, .int (zI ((j : Nat) : Int))), (0, .ref h0), (1, .int (zI ((f : Nat) : Int))), (2, .int (zI ((nn : Nat) : Int))), (3, .int (zI ((i : Nat) : Int))), (4, .int (zI ((r : Nat) : Int)))]) dX0_insert_63 hl (k := 5) rfl (by omega) (by decide) rfl (fun ls hl => ?_)
      refine lv_goto (tgt := 25) hx hb dX0_insert_66 (by decide) ?_
      exact ih j H locs ls (by omega) (by omega) (by omega) hP hD hS (lv_sub hl [1, 2, 3, 4, 5, 0] rfl)
set_option maxHeartbeats 4000000 in
set_option maxRecDepth 100000 in
theorem lpX0_insertB {p : Program} {l : Launch} {e : Env} {R : Room} {s : State} {m : MethodId} {args : Array Value} {below : List Frame} {meth : Method} {c : Code} {cells slots : Nat} {Q : State → Prop} {G : va_G} {H0 : Heap} {A : Nat → Prop} {h0 a1 a2 a3 : Nat} {dA : ClassId} {cn tn : Nat} {pp ss kk : Nat → Nat} {f nn i r : Nat} (hx : p.tables.exec = Jvm.exec) (hb : c.code = cX0_insert) (hown : s.vm.findClass RX0 = some m.cls) (hts : ∀ w ∈ lw_all, w.before args s = true) (hK : va_K G vwCl [(dA, .int)] s)
    (hc : cn ≤ 128)
    (kx : ∀ (H : Heap) (locs : List Loc) (ls : Array Slot), va_P G vwCl (wX h0 a1 a2 a3 dA cn pp ss (zSh kk r cn) tn) H → va_D A (wX h0 a1 a2 a3 dA cn pp ss (zSh kk r cn) tn) → va_S A H0 H locs → lv_has ls 6 [(0, .ref h0), (1, .int (zI ((f : Nat) : Int))), (2, .int (zI ((nn : Nat) : Int))), (3, .int (zI ((i : Nat) : Int))), (4, .int (zI ((r : Nat) : Int)))] → W p l e R s m args below meth c H locs cells slots Q (F0 m 104 ls [])) :
    ∀ (d : Nat) (j : Nat) (H : Heap) (locs : List Loc) (ls : Array Slot), j - r < d → r ≤ j → j ≤ cn → va_P G vwCl (wX h0 a1 a2 a3 dA cn pp ss (zSh kk j cn) tn) H → va_D A (wX h0 a1 a2 a3 dA cn pp ss (zSh kk j cn) tn) → va_S A H0 H locs → lv_has ls 6 [(0, .ref h0), (1, .int (zI ((f : Nat) : Int))), (2, .int (zI ((nn : Nat) : Int))), (3, .int (zI ((i : Nat) : Int))), (4, .int (zI ((r : Nat) : Int))), (5, .int (zI ((j : Nat) : Int)))] → W p l e R s m args below meth c H locs cells slots Q (F0 m 75 ls []) := by
  intro d
  induction d with
  | zero => intro j H locs ls h; exact absurd h (Nat.not_lt_zero _)
  | succ d ih =>
    intro j H locs ls hd h1 h2 hP hD hS hl
    refine lv_iload hx hb dX0_insert_75 (lv_at hl 5 rfl) ?_
    refine lv_iload hx hb dX0_insert_77 (lv_at hl 4 rfl) ?_
    refine zr_icmp_le (tgt := 104) hx hb dX0_insert_79 (by decide) (by omega) (fun c79 => ?_) (fun c79 => ?_)
    · have e9 : j = r := by omega
      subst e9
      exact kx H locs ls hP hD hS (lv_sub hl [0, 1, 2, 3, 4] rfl)
    · obtain ⟨j, rfl⟩ : ∃ y, j = y + 1 := ⟨j - 1, by omega⟩
      refine lv_aload_n hx hb dX0_insert_82 rfl (lv_at hl 0 rfl) ?_
      refine va_get (D := G) (ci := 0) (v := .ref a3) (C := RX0) (T := TX0) (N := 5) hx hb hts in_X0 hown hK hP 0 rfl rfl 3 (by decide) (hts _ q44) (fun _ h9 => h9) rfl dX0_insert_83 ?_
      refine lv_iload hx hb dX0_insert_86 (lv_at hl 5 rfl) ?_
      refine lv_aload_n hx hb dX0_insert_88 rfl (lv_at hl 0 rfl) ?_
      refine va_get (D := G) (ci := 0) (v := .ref a3) (C := RX0) (T := TX0) (N := 5) hx hb hts in_X0 hown hK hP 0 rfl rfl 3 (by decide) (hts _ q44) (fun _ h9 => h9) rfl dX0_insert_89 ?_
      refine lv_iload hx hb dX0_insert_92 (lv_at hl 5 rfl) ?_
      refine zr_iconstN 1 hx hb dX0_insert_94 rfl ?_
      refine zr_isub hx hb dX0_insert_95 ?_
      refine zr_top (y := ((j : Nat) : Int)) (by omega) ?_
      refine zr_iald hx hb hK hP 3 0 rfl rfl j rfl (by omega) (by decide) dX0_insert_96 ?_
      refine zr_iast hx hb hK hP hD hS 3 0 rfl rfl (j + 1) ((zSh kk (j + 1) cn) j) rfl rfl (by omega) (by decide) dX0_insert_97 (fun H locs hP hD hS => ?_)
      have hP : va_P G vwCl (wX h0 a1 a2 a3 dA cn pp ss (zU (zSh kk (j + 1) cn) (j + 1) ((zSh kk (j + 1) cn) j)) tn) H := hP
      have hD : va_D A (wX h0 a1 a2 a3 dA cn pp ss (zU (zSh kk (j + 1) cn) (j + 1) ((zSh kk (j + 1) cn) j)) tn) := hD
      rw [zSh_step kk j cn (by omega)] at hP hD
      refine zr_iinc hx hb ((j : Nat) : Int) (lv' := [(5, .int (zI ((j : Nat) : Int))), (0, .ref h0), (1, .int (zI ((f : Nat) : Int))), (2, .int (zI ((nn : Nat) : Int))), (3, .int (zI ((i : Nat) : Int))), (4, .int (zI ((r : Nat) : Int)))]) dX0_insert_98 hl (k := 5) rfl (by omega) (by decide) rfl (fun ls hl => ?_)
      refine lv_goto (tgt := 75) hx hb dX0_insert_101 (by decide) ?_
      exact ih j H locs ls (by omega) (by omega) (by omega) hP hD hS (lv_sub hl [1, 2, 3, 4, 5, 0] rfl)
set_option maxHeartbeats 4000000 in
set_option maxRecDepth 100000 in
theorem metX0_insert (l : Launch) (G : va_G) (sz : Nat) {h0 a1 a2 a3 : Nat} {dA : ClassId} {F : Nat → Bool} {cn tn : Nat} {pp ss kk : Nat → Nat} (hI : zInv F cn pp ss kk tn) {f nn : Nat} (hn : 1 ≤ nn) (hf : f + nn ≤ 256) (hsep : ∀ b, f ≤ b + 1 → b ≤ f + nn → F b = false) : zMU l yX0_insert cX0_insert 6 (none) ({ frames := 1, cells := 0, slots := 0, locals := 24 } : Room) G (wX h0 a1 a2 a3 dA cn pp ss kk tn) [(dA, .int)] [.ref h0, .int (zI ((f : Nat) : Int)), .int (zI ((nn : Nat) : Int))] sz (zQv G [(dA, .int)] (wXu h0 a1 a2 a3 dA) (fun u => zIv (zM F f nn true) u)) 0 0 := by
  refine zmu_enter (by decide) (Nat.le_of_ble_eq_true rfl) ?_
  intro p e s m below meth c A H locs hx hb hr hml hown hlocks hnm hts hA hP hK hD hS ls hl
  have hown : s.vm.findClass RX0 = some m.cls := hown
  have hl : lv_has ls 6 [(0, .ref h0), (1, .int (zI ((f : Nat) : Int))), (2, .int (zI ((nn : Nat) : Int)))] := hl
  have hc128 := zInv_c hI
  have ht256 := zInv_t hI
  refine lv_aload_n hx hb dX0_insert_0 rfl (lv_at hl 0 rfl) ?_
  refine lv_iload_n hx hb dX0_insert_1 rfl (lv_at hl 1 rfl) ?_
  refine zc_ro (n := 1) (As := [.int (zI ((f : Nat) : Int))]) (rest := []) ⟨hx, hb, hml, hown, hts⟩ (metX0_firstFrom l G hI (b := f) (by omega)) (lw_V q33 q35 qs1 q15 q36) ⟨rfl, rfl⟩ (by decide +kernel) ⟨Nat.le_of_ble_eq_true rfl, Nat.le_of_ble_eq_true rfl⟩ hK hP 0 0 rfl rfl rfl rfl rfl hl (by decide) ⟨Nat.zero_le _, Nat.zero_le _⟩ dX0_insert_2 (fun r2 h2 => ?_)
  obtain ⟨i, hi1, rfl, hi2, hi3⟩ := h2
  refine lv_istore_n (lv' := [(3, .int (zI ((i : Nat) : Int))), (0, .ref h0), (1, .int (zI ((f : Nat) : Int))), (2, .int (zI ((nn : Nat) : Int)))]) hx hb dX0_insert_5 rfl hl (by decide) rfl (fun ls hl => ?_)
  refine lv_aload_n hx hb dX0_insert_6 rfl (lv_at hl 1 rfl) ?_
  refine lv_iload_n hx hb dX0_insert_7 rfl (lv_at hl 3 rfl) ?_
  refine zr_sipush ((256 : Nat) : Int) hx hb dX0_insert_8 (by decide) ?_
  refine zr_imulN hx hb dX0_insert_11 ?_
  refine lv_iload_n hx hb dX0_insert_12 rfl (lv_at hl 2 rfl) ?_
  refine zr_iaddN hx hb dX0_insert_13 ?_
  refine zc_ro (n := 1) (As := [.int (zI (((nn * 256) + f : Nat) : Int))]) (rest := []) ⟨hx, hb, hml, hown, hts⟩ (metX0_keyFrom l G hI (b := nn * 256 + f) (by omega)) (lw_V q37 q39 qs2 q15 q40) ⟨rfl, rfl⟩ (by decide +kernel) ⟨Nat.le_of_ble_eq_true rfl, Nat.le_of_ble_eq_true rfl⟩ hK hP 0 0 rfl rfl rfl rfl rfl hl (by decide) ⟨Nat.zero_le _, Nat.zero_le _⟩ dX0_insert_14 (fun r14 h14 => ?_)
  obtain ⟨r, hr1, rfl, hr2, hr3⟩ := h14
  refine lv_istore (lv' := [(4, .int (zI ((r : Nat) : Int))), (3, .int (zI ((i : Nat) : Int))), (0, .ref h0), (1, .int (zI ((f : Nat) : Int))), (2, .int (zI ((nn : Nat) : Int)))]) hx hb dX0_insert_17 hl (by decide) rfl (fun ls hl => ?_)
  refine lv_aload_n hx hb dX0_insert_19 rfl (lv_at hl 2 rfl) ?_
  refine va_get (D := G) (ci := 0) (v := .int (zI ((cn : Nat) : Int))) (C := RX0) (T := TX0) (N := 5) hx hb hts in_X0 hown hK hP 0 rfl rfl 0 (by decide) (hts _ q41) (fun _ h9 => h9) rfl dX0_insert_20 ?_
  refine lv_istore (lv' := [(5, .int (zI ((cn : Nat) : Int))), (4, .int (zI ((r : Nat) : Int))), (3, .int (zI ((i : Nat) : Int))), (0, .ref h0), (1, .int (zI ((f : Nat) : Int))), (2, .int (zI ((nn : Nat) : Int)))]) hx hb dX0_insert_23 hl (by decide) rfl (fun ls hl => ?_)
  have hP : va_P G vwCl (wX h0 a1 a2 a3 dA cn (zSh pp cn cn) (zSh ss cn cn) kk tn) H := by rw [zSh_self, zSh_self]; exact hP
  have hD : va_D A (wX h0 a1 a2 a3 dA cn (zSh pp cn cn) (zSh ss cn cn) kk tn) := by rw [zSh_self, zSh_self]; exact hD
  refine lpX0_insertA hx hb hown hts hK (i := i) (by omega) (fun H locs ls hP hD hS hl => ?_) (cn + 1) cn H locs ls (by omega) (by omega) (by omega) hP hD hS (lv_sub hl [3, 4, 5, 2, 1, 0] rfl)
  refine lv_aload_n hx hb dX0_insert_69 rfl (lv_at hl 0 rfl) ?_
  refine va_get (D := G) (ci := 0) (v := .int (zI ((cn : Nat) : Int))) (C := RX0) (T := TX0) (N := 5) hx hb hts in_X0 hown hK hP 0 rfl rfl 0 (by decide) (hts _ q41) (fun _ h9 => h9) rfl dX0_insert_70 ?_
  refine lv_istore (lv' := [(5, .int (zI ((cn : Nat) : Int))), (0, .ref h0), (1, .int (zI ((f : Nat) : Int))), (2, .int (zI ((nn : Nat) : Int))), (3, .int (zI ((i : Nat) : Int))), (4, .int (zI ((r : Nat) : Int)))]) hx hb dX0_insert_73 hl (by decide) rfl (fun ls hl => ?_)
  have hP : va_P G vwCl (wX h0 a1 a2 a3 dA cn (zSh pp i cn) (zSh ss i cn) (zSh kk cn cn) tn) H := by rw [zSh_self]; exact hP
  have hD : va_D A (wX h0 a1 a2 a3 dA cn (zSh pp i cn) (zSh ss i cn) (zSh kk cn cn) tn) := by rw [zSh_self]; exact hD
  refine lpX0_insertB hx hb hown hts hK (r := r) (by omega) (fun H locs ls hP hD hS hl => ?_) (cn + 1) cn H locs ls (by omega) (by omega) (by omega) hP hD hS (lv_sub hl [1, 2, 3, 4, 5, 0] rfl)
  refine lv_aload_n hx hb dX0_insert_104 rfl (lv_at hl 0 rfl) ?_
  refine va_get (D := G) (ci := 0) (v := .ref a1) (C := RX0) (T := TX0) (N := 5) hx hb hts in_X0 hown hK hP 0 rfl rfl 1 (by decide) (hts _ q42) (fun _ h9 => h9) rfl dX0_insert_105 ?_
  refine lv_iload_n hx hb dX0_insert_108 rfl (lv_at hl 3 rfl) ?_
  refine lv_iload_n hx hb dX0_insert_109 rfl (lv_at hl 1 rfl) ?_
  refine zr_iast hx hb hK hP hD hS 1 0 rfl rfl i f rfl rfl (by omega) (by decide) dX0_insert_110 (fun H locs hP hD hS => ?_)
  have hP : va_P G vwCl (wX h0 a1 a2 a3 dA cn (zU (zSh pp i cn) i f) (zSh ss i cn) (zSh kk r cn) tn) H := hP
  have hD : va_D A (wX h0 a1 a2 a3 dA cn (zU (zSh pp i cn) i f) (zSh ss i cn) (zSh kk r cn) tn) := hD
  refine lv_aload_n hx hb dX0_insert_111 rfl (lv_at hl 0 rfl) ?_
  refine va_get (D := G) (ci := 0) (v := .ref a2) (C := RX0) (T := TX0) (N := 5) hx hb hts in_X0 hown hK hP 0 rfl rfl 2 (by decide) (hts _ q43) (fun _ h9 => h9) rfl dX0_insert_112 ?_
  refine lv_iload_n hx hb dX0_insert_115 rfl (lv_at hl 3 rfl) ?_
  refine lv_iload_n hx hb dX0_insert_116 rfl (lv_at hl 2 rfl) ?_
  refine zr_iast hx hb hK hP hD hS 2 0 rfl rfl i nn rfl rfl (by omega) (by decide) dX0_insert_117 (fun H locs hP hD hS => ?_)
  have hP : va_P G vwCl (wX h0 a1 a2 a3 dA cn (zU (zSh pp i cn) i f) (zU (zSh ss i cn) i nn) (zSh kk r cn) tn) H := hP
  have hD : va_D A (wX h0 a1 a2 a3 dA cn (zU (zSh pp i cn) i f) (zU (zSh ss i cn) i nn) (zSh kk r cn) tn) := hD
  refine lv_aload_n hx hb dX0_insert_118 rfl (lv_at hl 0 rfl) ?_
  refine va_get (D := G) (ci := 0) (v := .ref a3) (C := RX0) (T := TX0) (N := 5) hx hb hts in_X0 hown hK hP 0 rfl rfl 3 (by decide) (hts _ q44) (fun _ h9 => h9) rfl dX0_insert_119 ?_
  refine lv_iload hx hb dX0_insert_122 (lv_at hl 4 rfl) ?_
  refine lv_iload_n hx hb dX0_insert_124 rfl (lv_at hl 2 rfl) ?_
  refine zr_sipush ((256 : Nat) : Int) hx hb dX0_insert_125 (by decide) ?_
  refine zr_imulN hx hb dX0_insert_128 ?_
  refine lv_iload_n hx hb dX0_insert_129 rfl (lv_at hl 1 rfl) ?_
  refine zr_iaddN hx hb dX0_insert_130 ?_
  refine zr_iast hx hb hK hP hD hS 3 0 rfl rfl r ((nn * 256) + f) rfl rfl (by omega) (by decide) dX0_insert_131 (fun H locs hP hD hS => ?_)
  have hP : va_P G vwCl (wX h0 a1 a2 a3 dA cn (zU (zSh pp i cn) i f) (zU (zSh ss i cn) i nn) (zU (zSh kk r cn) r ((nn * 256) + f)) tn) H := hP
  have hD : va_D A (wX h0 a1 a2 a3 dA cn (zU (zSh pp i cn) i f) (zU (zSh ss i cn) i nn) (zU (zSh kk r cn) r ((nn * 256) + f)) tn) := hD
  refine lv_aload_n hx hb dX0_insert_132 rfl (lv_at hl 0 rfl) ?_
  refine lv_dup hx hb dX0_insert_133 rfl ?_
  refine va_get (D := G) (ci := 0) (v := .int (zI ((cn : Nat) : Int))) (C := RX0) (T := TX0) (N := 5) hx hb hts in_X0 hown hK hP 0 rfl rfl 0 (by decide) (hts _ q41) (fun _ h9 => h9) rfl dX0_insert_134 ?_
  refine zr_iconstN 1 hx hb dX0_insert_137 rfl ?_
  refine zr_iaddN hx hb dX0_insert_138 ?_
  refine va_put (D := G) (ci := 0) (v := .int (zI ((cn + 1 : Nat) : Int))) (ty := .int) (C := RX0) (T := TX0) (N := 5) hx hb hts in_X0 tyX0 tyX0_ok nmX0 hown hK hP hD hS 0 rfl rfl 0 (by decide) (hts _ q41) (fun _ h9 => h9) rfl (by decide +kernel) rfl rfl (Nat.le_of_ble_eq_true rfl) dX0_insert_139 (fun H locs hP hD hS => ?_)
  have hP : va_P G vwCl (wX h0 a1 a2 a3 dA (cn + 1) (zU (zSh pp i cn) i f) (zU (zSh ss i cn) i nn) (zU (zSh kk r cn) r ((nn * 256) + f)) tn) H := hP
  have hD : va_D A (wX h0 a1 a2 a3 dA (cn + 1) (zU (zSh pp i cn) i f) (zU (zSh ss i cn) i nn) (zU (zSh kk r cn) r ((nn * 256) + f)) tn) := hD
  refine lv_aload_n hx hb dX0_insert_142 rfl (lv_at hl 0 rfl) ?_
  refine lv_dup hx hb dX0_insert_143 rfl ?_
  refine va_get (D := G) (ci := 0) (v := .int (zI ((tn : Nat) : Int))) (C := RX0) (T := TX0) (N := 5) hx hb hts in_X0 hown hK hP 0 rfl rfl 4 (by decide) (hts _ q45) (fun _ h9 => h9) rfl dX0_insert_144 ?_
  refine lv_iload_n hx hb dX0_insert_147 rfl (lv_at hl 2 rfl) ?_
  refine zr_iaddN hx hb dX0_insert_148 ?_
  refine va_put (D := G) (ci := 0) (v := .int (zI ((tn + nn : Nat) : Int))) (ty := .int) (C := RX0) (T := TX0) (N := 5) hx hb hts in_X0 tyX0 tyX0_ok nmX0 hown hK hP hD hS 0 rfl rfl 4 (by decide) (hts _ q45) (fun _ h9 => h9) rfl (by decide +kernel) rfl rfl (Nat.le_of_ble_eq_true rfl) dX0_insert_149 (fun H locs hP hD hS => ?_)
  have hP : va_P G vwCl (wX h0 a1 a2 a3 dA (cn + 1) (zU (zSh pp i cn) i f) (zU (zSh ss i cn) i nn) (zU (zSh kk r cn) r ((nn * 256) + f)) (tn + nn)) H := hP
  have hD : va_D A (wX h0 a1 a2 a3 dA (cn + 1) (zU (zSh pp i cn) i f) (zU (zSh ss i cn) i nn) (zU (zSh kk r cn) r ((nn * 256) + f)) (tn + nn)) := hD
  exact zret_muv hx hb hr hlocks dX0_insert_152 (cn + 1, zU (zSh pp i cn) i f, zU (zSh ss i cn) i nn, zU (zSh kk r cn) r ((nn * 256) + f), tn + nn) hP hK hD hS (zInv_insert hI hn hf hsep hi1 hi2 hi3 hr1 hr2 hr3)
set_option maxHeartbeats 4000000 in
set_option maxRecDepth 100000 in
theorem lpX0_removeA {p : Program} {l : Launch} {e : Env} {R : Room} {s : State} {m : MethodId} {args : Array Value} {below : List Frame} {meth : Method} {c : Code} {cells slots : Nat} {Q : State → Prop} {G : va_G} {H0 : Heap} {A : Nat → Prop} {h0 a1 a2 a3 : Nat} {dA : ClassId} {cn tn : Nat} {pp ss kk : Nat → Nat} {i r : Nat} (hx : p.tables.exec = Jvm.exec) (hb : c.code = cX0_remove) (hown : s.vm.findClass RX0 = some m.cls) (hts : ∀ w ∈ lw_all, w.before args s = true) (hK : va_K G vwCl [(dA, .int)] s)
    (hc : cn ≤ 128)
    (kx : ∀ (H : Heap) (locs : List Loc) (ls : Array Slot), va_P G vwCl (wX h0 a1 a2 a3 dA cn (zLf pp i cn) (zLf ss i cn) kk tn) H → va_D A (wX h0 a1 a2 a3 dA cn (zLf pp i cn) (zLf ss i cn) kk tn) → va_S A H0 H locs → lv_has ls 4 [(0, .ref h0), (1, .int (zI ((i : Nat) : Int))), (2, .int (zI ((r : Nat) : Int)))] → W p l e R s m args below meth c H locs cells slots Q (F0 m 91 ls [])) :
    ∀ (d : Nat) (j : Nat) (H : Heap) (locs : List Loc) (ls : Array Slot), cn - j < d → i ≤ j → j ≤ cn → va_P G vwCl (wX h0 a1 a2 a3 dA cn (zLf pp i j) (zLf ss i j) kk tn) H → va_D A (wX h0 a1 a2 a3 dA cn (zLf pp i j) (zLf ss i j) kk tn) → va_S A H0 H locs → lv_has ls 4 [(0, .ref h0), (1, .int (zI ((i : Nat) : Int))), (2, .int (zI ((r : Nat) : Int))), (3, .int (zI ((j : Nat) : Int)))] → W p l e R s m args below meth c H locs cells slots Q (F0 m 49 ls []) := by
  intro d
  induction d with
  | zero => intro j H locs ls h; exact absurd h (Nat.not_lt_zero _)
  | succ d ih =>
    intro j H locs ls hd h1 h2 hP hD hS hl
    refine lv_iload_n hx hb dX0_remove_49 rfl (lv_at hl 3 rfl) ?_
    refine lv_aload_n hx hb dX0_remove_50 rfl (lv_at hl 0 rfl) ?_
    refine va_get (D := G) (ci := 0) (v := .int (zI ((cn : Nat) : Int))) (C := RX0) (T := TX0) (N := 5) hx hb hts in_X0 hown hK hP 0 rfl rfl 0 (by decide) (hts _ q41) (fun _ h9 => h9) rfl dX0_remove_51 ?_
    refine zr_icmp_ge (tgt := 91) hx hb dX0_remove_54 (by decide) (by omega) (fun c54 => ?_) (fun c54 => ?_)
    · have e9 : j = cn := by omega
      subst e9
      exact kx H locs ls hP hD hS (lv_sub hl [0, 1, 2] rfl)
    · refine lv_aload_n hx hb dX0_remove_57 rfl (lv_at hl 0 rfl) ?_
      refine va_get (D := G) (ci := 0) (v := .ref a1) (C := RX0) (T := TX0) (N := 5) hx hb hts in_X0 hown hK hP 0 rfl rfl 1 (by decide) (hts _ q42) (fun _ h9 => h9) rfl dX0_remove_58 ?_
      refine lv_iload_n hx hb dX0_remove_61 rfl (lv_at hl 3 rfl) ?_
      refine lv_aload_n hx hb dX0_remove_62 rfl (lv_at hl 0 rfl) ?_
      refine va_get (D := G) (ci := 0) (v := .ref a1) (C := RX0) (T := TX0) (N := 5) hx hb hts in_X0 hown hK hP 0 rfl rfl 1 (by decide) (hts _ q42) (fun _ h9 => h9) rfl dX0_remove_63 ?_
      refine lv_iload_n hx hb dX0_remove_66 rfl (lv_at hl 3 rfl) ?_
      refine zr_iconstN 1 hx hb dX0_remove_67 rfl ?_
      refine zr_iaddN hx hb dX0_remove_68 ?_
      refine zr_iald hx hb hK hP 1 0 rfl rfl (j + 1) rfl (by omega) (by decide) dX0_remove_69 ?_
      refine zr_iast hx hb hK hP hD hS 1 0 rfl rfl j ((zLf pp i j) (j + 1)) rfl rfl (by omega) (by decide) dX0_remove_70 (fun H locs hP hD hS => ?_)
      have hP : va_P G vwCl (wX h0 a1 a2 a3 dA cn (zU (zLf pp i j) j ((zLf pp i j) (j + 1))) (zLf ss i j) kk tn) H := hP
      have hD : va_D A (wX h0 a1 a2 a3 dA cn (zU (zLf pp i j) j ((zLf pp i j) (j + 1))) (zLf ss i j) kk tn) := hD
      rw [zLf_step pp i j (by omega)] at hP hD
      refine lv_aload_n hx hb dX0_remove_71 rfl (lv_at hl 0 rfl) ?_
      refine va_get (D := G) (ci := 0) (v := .ref a2) (C := RX0) (T := TX0) (N := 5) hx hb hts in_X0 hown hK hP 0 rfl rfl 2 (by decide) (hts _ q43) (fun _ h9 => h9) rfl dX0_remove_72 ?_
      refine lv_iload_n hx hb dX0_remove_75 rfl (lv_at hl 3 rfl) ?_
      refine lv_aload_n hx hb dX0_remove_76 rfl (lv_at hl 0 rfl) ?_
      refine va_get (D := G) (ci := 0) (v := .ref a2) (C := RX0) (T := TX0) (N := 5) hx hb hts in_X0 hown hK hP 0 rfl rfl 2 (by decide) (hts _ q43) (fun _ h9 => h9) rfl dX0_remove_77 ?_
      refine lv_iload_n hx hb dX0_remove_80 rfl (lv_at hl 3 rfl) ?_
      refine zr_iconstN 1 hx hb dX0_remove_81 rfl ?_
      refine zr_iaddN hx hb dX0_remove_82 ?_
      refine zr_iald hx hb hK hP 2 0 rfl rfl (j + 1) rfl (by omega) (by decide) dX0_remove_83 ?_
      refine zr_iast hx hb hK hP hD hS 2 0 rfl rfl j ((zLf ss i j) (j + 1)) rfl rfl (by omega) (by decide) dX0_remove_84 (fun H locs hP hD hS => ?_)
      have hP : va_P G vwCl (wX h0 a1 a2 a3 dA cn (zLf pp i (j + 1)) (zU (zLf ss i j) j ((zLf ss i j) (j + 1))) kk tn) H := hP
      have hD : va_D A (wX h0 a1 a2 a3 dA cn (zLf pp i (j + 1)) (zU (zLf ss i j) j ((zLf ss i j) (j + 1))) kk tn) := hD
      rw [zLf_step ss i j (by omega)] at hP hD
      refine zr_iinc hx hb ((j + 1 : Nat) : Int) (lv' := [(3, .int (zI ((j + 1 : Nat) : Int))), (0, .ref h0), (1, .int (zI ((i : Nat) : Int))), (2, .int (zI ((r : Nat) : Int)))]) dX0_remove_85 hl (k := 3) rfl (by omega) (by decide) rfl (fun ls hl => ?_)
      refine lv_goto (tgt := 49) hx hb dX0_remove_88 (by decide) ?_
      exact ih (j + 1) H locs ls (by omega) (by omega) (by omega) hP hD hS (lv_sub hl [1, 2, 3, 0] rfl)
set_option maxHeartbeats 4000000 in
set_option maxRecDepth 100000 in
theorem lpX0_removeB {p : Program} {l : Launch} {e : Env} {R : Room} {s : State} {m : MethodId} {args : Array Value} {below : List Frame} {meth : Method} {c : Code} {cells slots : Nat} {Q : State → Prop} {G : va_G} {H0 : Heap} {A : Nat → Prop} {h0 a1 a2 a3 : Nat} {dA : ClassId} {cn tn : Nat} {pp ss kk : Nat → Nat} {i r : Nat} (hx : p.tables.exec = Jvm.exec) (hb : c.code = cX0_remove) (hown : s.vm.findClass RX0 = some m.cls) (hts : ∀ w ∈ lw_all, w.before args s = true) (hK : va_K G vwCl [(dA, .int)] s)
    (hc : cn ≤ 128)
    (kx : ∀ (H : Heap) (locs : List Loc) (ls : Array Slot), va_P G vwCl (wX h0 a1 a2 a3 dA cn pp ss (zLf kk r cn) tn) H → va_D A (wX h0 a1 a2 a3 dA cn pp ss (zLf kk r cn) tn) → va_S A H0 H locs → lv_has ls 4 [(0, .ref h0), (1, .int (zI ((i : Nat) : Int))), (2, .int (zI ((r : Nat) : Int)))] → W p l e R s m args below meth c H locs cells slots Q (F0 m 121 ls [])) :
    ∀ (d : Nat) (j : Nat) (H : Heap) (locs : List Loc) (ls : Array Slot), cn - j < d → r ≤ j → j ≤ cn → va_P G vwCl (wX h0 a1 a2 a3 dA cn pp ss (zLf kk r j) tn) H → va_D A (wX h0 a1 a2 a3 dA cn pp ss (zLf kk r j) tn) → va_S A H0 H locs → lv_has ls 4 [(0, .ref h0), (1, .int (zI ((i : Nat) : Int))), (2, .int (zI ((r : Nat) : Int))), (3, .int (zI ((j : Nat) : Int)))] → W p l e R s m args below meth c H locs cells slots Q (F0 m 93 ls []) := by
  intro d
  induction d with
  | zero => intro j H locs ls h; exact absurd h (Nat.not_lt_zero _)
  | succ d ih =>
    intro j H locs ls hd h1 h2 hP hD hS hl
    refine lv_iload_n hx hb dX0_remove_93 rfl (lv_at hl 3 rfl) ?_
    refine lv_aload_n hx hb dX0_remove_94 rfl (lv_at hl 0 rfl) ?_
    refine va_get (D := G) (ci := 0) (v := .int (zI ((cn : Nat) : Int))) (C := RX0) (T := TX0) (N := 5) hx hb hts in_X0 hown hK hP 0 rfl rfl 0 (by decide) (hts _ q41) (fun _ h9 => h9) rfl dX0_remove_95 ?_
    refine zr_icmp_ge (tgt := 121) hx hb dX0_remove_98 (by decide) (by omega) (fun c98 => ?_) (fun c98 => ?_)
    · have e9 : j = cn := by omega
      subst e9
      exact kx H locs ls hP hD hS (lv_sub hl [0, 1, 2] rfl)
    · refine lv_aload_n hx hb dX0_remove_101 rfl (lv_at hl 0 rfl) ?_
      refine va_get (D := G) (ci := 0) (v := .ref a3) (C := RX0) (T := TX0) (N := 5) hx hb hts in_X0 hown hK hP 0 rfl rfl 3 (by decide) (hts _ q44) (fun _ h9 => h9) rfl dX0_remove_102 ?_
      refine lv_iload_n hx hb dX0_remove_105 rfl (lv_at hl 3 rfl) ?_
      refine lv_aload_n hx hb dX0_remove_106 rfl (lv_at hl 0 rfl) ?_
      refine va_get (D := G) (ci := 0) (v := .ref a3) (C := RX0) (T := TX0) (N := 5) hx hb hts in_X0 hown hK hP 0 rfl rfl 3 (by decide) (hts _ q44) (fun _ h9 => h9) rfl dX0_remove_107 ?_
      refine lv_iload_n hx hb dX0_remove_110 rfl (lv_at hl 3 rfl) ?_
      refine zr_iconstN 1 hx hb dX0_remove_111 rfl ?_
      refine zr_iaddN hx hb dX0_remove_112 ?_
      refine zr_iald hx hb hK hP 3 0 rfl rfl (j + 1) rfl (by omega) (by decide) dX0_remove_113 ?_
      refine zr_iast hx hb hK hP hD hS 3 0 rfl rfl j ((zLf kk r j) (j + 1)) rfl rfl (by omega) (by decide) dX0_remove_114 (fun H locs hP hD hS => ?_)
      have hP : va_P G vwCl (wX h0 a1 a2 a3 dA cn pp ss (zU (zLf kk r j) j ((zLf kk r j) (j + 1))) tn) H := hP
      have hD : va_D A (wX h0 a1 a2 a3 dA cn pp ss (zU (zLf kk r j) j ((zLf kk r j) (j + 1))) tn) := hD
      rw [zLf_step kk r j (by omega)] at hP hD
      refine zr_iinc hx hb ((j + 1 : Nat) : Int) (lv' := [(3, .int (zI ((j + 1 : Nat) : Int))), (0, .ref h0), (1, .int (zI ((i : Nat) : Int))), (2, .int (zI ((r : Nat) : Int)))]) dX0_remove_115 hl (k := 3) rfl (by omega) (by decide) rfl (fun ls hl => ?_)
      refine lv_goto (tgt := 93) hx hb dX0_remove_118 (by decide) ?_
      exact ih (j + 1) H locs ls (by omega) (by omega) (by omega) hP hD hS (lv_sub hl [1, 2, 3, 0] rfl)
set_option maxHeartbeats 4000000 in
set_option maxRecDepth 100000 in
theorem metX0_remove (l : Launch) (G : va_G) (sz : Nat) {h0 a1 a2 a3 : Nat} {dA : ClassId} {F : Nat → Bool} {cn tn : Nat} {pp ss kk : Nat → Nat} (hI : zInv F cn pp ss kk tn) {i : Nat} (hi : i < cn) : zMU l yX0_remove cX0_remove 4 (none) ({ frames := 1, cells := 0, slots := 0, locals := 24 } : Room) G (wX h0 a1 a2 a3 dA cn pp ss kk tn) [(dA, .int)] [.ref h0, .int (zI ((i : Nat) : Int))] sz (zQv G [(dA, .int)] (wXu h0 a1 a2 a3 dA) (fun u => zIv (zM F (pp i) (ss i) false) u ∧ u.1 = cn - 1 ∧ u.2.1 = zLf pp i (cn - 1) ∧ u.2.2.1 = zLf ss i (cn - 1))) 0 0 := by
  refine zmu_enter (by decide) (Nat.le_of_ble_eq_true rfl) ?_
  intro p e s m below meth c A H locs hx hb hr hml hown hlocks hnm hts hA hP hK hD hS ls hl
  have hown : s.vm.findClass RX0 = some m.cls := hown
  have hl : lv_has ls 4 [(0, .ref h0), (1, .int (zI ((i : Nat) : Int)))] := hl
  have hc128 := zInv_c hI
  have ht256 := zInv_t hI
  have hps := hI.1 i hi
  have hst := zInv_st hI hi
  refine lv_aload_n hx hb dX0_remove_0 rfl (lv_at hl 0 rfl) ?_
  refine lv_aload_n hx hb dX0_remove_1 rfl (lv_at hl 0 rfl) ?_
  refine va_get (D := G) (ci := 0) (v := .ref a2) (C := RX0) (T := TX0) (N := 5) hx hb hts in_X0 hown hK hP 0 rfl rfl 2 (by decide) (hts _ q43) (fun _ h9 => h9) rfl dX0_remove_2 ?_
  refine lv_iload_n hx hb dX0_remove_5 rfl (lv_at hl 1 rfl) ?_
  refine zr_iald hx hb hK hP 2 0 rfl rfl i rfl (by omega) (by decide) dX0_remove_6 ?_
  refine zr_sipush ((256 : Nat) : Int) hx hb dX0_remove_7 (by decide) ?_
  refine zr_imulN hx hb dX0_remove_10 ?_
  refine lv_aload_n hx hb dX0_remove_11 rfl (lv_at hl 0 rfl) ?_
  refine va_get (D := G) (ci := 0) (v := .ref a1) (C := RX0) (T := TX0) (N := 5) hx hb hts in_X0 hown hK hP 0 rfl rfl 1 (by decide) (hts _ q42) (fun _ h9 => h9) rfl dX0_remove_12 ?_
  refine lv_iload_n hx hb dX0_remove_15 rfl (lv_at hl 1 rfl) ?_
  refine zr_iald hx hb hK hP 1 0 rfl rfl i rfl (by omega) (by decide) dX0_remove_16 ?_
  refine zr_iaddN hx hb dX0_remove_17 ?_
  refine zc_ro (n := 1) (As := [.int (zI ((((ss i) * 256) + (pp i) : Nat) : Int))]) (rest := []) ⟨hx, hb, hml, hown, hts⟩ (metX0_keyFrom l G hI (b := ss i * 256 + pp i) (by omega)) (lw_V q37 q39 qs2 q15 q40) ⟨rfl, rfl⟩ (by decide +kernel) ⟨Nat.le_of_ble_eq_true rfl, Nat.le_of_ble_eq_true rfl⟩ hK hP 0 0 rfl rfl rfl rfl rfl hl (by decide) ⟨Nat.zero_le _, Nat.zero_le _⟩ dX0_remove_18 (fun r18 h18 => ?_)
  obtain ⟨r, hr1, rfl, hr2, hr3⟩ := h18
  refine lv_istore_n (lv' := [(2, .int (zI ((r : Nat) : Int))), (0, .ref h0), (1, .int (zI ((i : Nat) : Int)))]) hx hb dX0_remove_21 rfl hl (by decide) rfl (fun ls hl => ?_)
  obtain ⟨hrc, hkr⟩ := zInv_find hI hi hr1 hr2 hr3
  refine lv_aload_n hx hb dX0_remove_22 rfl (lv_at hl 1 rfl) ?_
  refine lv_dup hx hb dX0_remove_23 rfl ?_
  refine va_get (D := G) (ci := 0) (v := .int (zI ((tn : Nat) : Int))) (C := RX0) (T := TX0) (N := 5) hx hb hts in_X0 hown hK hP 0 rfl rfl 4 (by decide) (hts _ q45) (fun _ h9 => h9) rfl dX0_remove_24 ?_
  refine lv_aload_n hx hb dX0_remove_27 rfl (lv_at hl 1 rfl) ?_
  refine va_get (D := G) (ci := 0) (v := .ref a2) (C := RX0) (T := TX0) (N := 5) hx hb hts in_X0 hown hK hP 0 rfl rfl 2 (by decide) (hts _ q43) (fun _ h9 => h9) rfl dX0_remove_28 ?_
  refine lv_iload_n hx hb dX0_remove_31 rfl (lv_at hl 2 rfl) ?_
  refine zr_iald hx hb hK hP 2 0 rfl rfl i rfl (by omega) (by decide) dX0_remove_32 ?_
  refine zr_isubN hx hb (by omega) dX0_remove_33 ?_
  refine va_put (D := G) (ci := 0) (v := .int (zI ((tn - (ss i) : Nat) : Int))) (ty := .int) (C := RX0) (T := TX0) (N := 5) hx hb hts in_X0 tyX0 tyX0_ok nmX0 hown hK hP hD hS 0 rfl rfl 4 (by decide) (hts _ q45) (fun _ h9 => h9) rfl (by decide +kernel) rfl rfl (Nat.le_of_ble_eq_true rfl) dX0_remove_34 (fun H locs hP hD hS => ?_)
  have hP : va_P G vwCl (wX h0 a1 a2 a3 dA cn pp ss kk (tn - (ss i))) H := hP
  have hD : va_D A (wX h0 a1 a2 a3 dA cn pp ss kk (tn - (ss i))) := hD
  refine lv_aload_n hx hb dX0_remove_37 rfl (lv_at hl 1 rfl) ?_
  refine lv_dup hx hb dX0_remove_38 rfl ?_
  refine va_get (D := G) (ci := 0) (v := .int (zI ((cn : Nat) : Int))) (C := RX0) (T := TX0) (N := 5) hx hb hts in_X0 hown hK hP 0 rfl rfl 0 (by decide) (hts _ q41) (fun _ h9 => h9) rfl dX0_remove_39 ?_
  refine zr_iconstN 1 hx hb dX0_remove_42 rfl ?_
  refine zr_isubN hx hb (by omega) dX0_remove_43 ?_
  refine va_put (D := G) (ci := 0) (v := .int (zI ((cn - 1 : Nat) : Int))) (ty := .int) (C := RX0) (T := TX0) (N := 5) hx hb hts in_X0 tyX0 tyX0_ok nmX0 hown hK hP hD hS 0 rfl rfl 0 (by decide) (hts _ q41) (fun _ h9 => h9) rfl (by decide +kernel) rfl rfl (Nat.le_of_ble_eq_true rfl) dX0_remove_44 (fun H locs hP hD hS => ?_)
  have hP : va_P G vwCl (wX h0 a1 a2 a3 dA (cn - 1) pp ss kk (tn - (ss i))) H := hP
  have hD : va_D A (wX h0 a1 a2 a3 dA (cn - 1) pp ss kk (tn - (ss i))) := hD
  refine lv_iload_n hx hb dX0_remove_47 rfl (lv_at hl 2 rfl) ?_
  refine lv_istore_n (lv' := [(3, .int (zI ((i : Nat) : Int))), (2, .int (zI ((r : Nat) : Int))), (0, .ref h0), (1, .int (zI ((i : Nat) : Int)))]) hx hb dX0_remove_48 rfl hl (by decide) rfl (fun ls hl => ?_)
  have hP : va_P G vwCl (wX h0 a1 a2 a3 dA (cn - 1) (zLf pp i i) (zLf ss i i) kk (tn - ss i)) H := by rw [zLf_self, zLf_self]; exact hP
  have hD : va_D A (wX h0 a1 a2 a3 dA (cn - 1) (zLf pp i i) (zLf ss i i) kk (tn - ss i)) := by rw [zLf_self, zLf_self]; exact hD
  refine lpX0_removeA hx hb hown hts hK (i := i) (by omega) (fun H locs ls hP hD hS hl => ?_) (cn + 1) i H locs ls (by omega) (by omega) (by omega) hP hD hS (lv_sub hl [2, 3, 1, 0] rfl)
  refine lv_iload_n hx hb dX0_remove_91 rfl (lv_at hl 2 rfl) ?_
  refine lv_istore_n (lv' := [(3, .int (zI ((r : Nat) : Int))), (0, .ref h0), (1, .int (zI ((i : Nat) : Int))), (2, .int (zI ((r : Nat) : Int)))]) hx hb dX0_remove_92 rfl hl (by decide) rfl (fun ls hl => ?_)
  have hP : va_P G vwCl (wX h0 a1 a2 a3 dA (cn - 1) (zLf pp i (cn - 1)) (zLf ss i (cn - 1)) (zLf kk r r) (tn - ss i)) H := by rw [zLf_self]; exact hP
  have hD : va_D A (wX h0 a1 a2 a3 dA (cn - 1) (zLf pp i (cn - 1)) (zLf ss i (cn - 1)) (zLf kk r r) (tn - ss i)) := by rw [zLf_self]; exact hD
  refine lpX0_removeB hx hb hown hts hK (r := r) (by omega) (fun H locs ls hP hD hS hl => ?_) (cn + 1) r H locs ls (by omega) (by omega) (by omega) hP hD hS (lv_sub hl [1, 2, 3, 0] rfl)
  exact zret_muv hx hb hr hlocks dX0_remove_121 (cn - 1, zLf pp i (cn - 1), zLf ss i (cn - 1), zLf kk r (cn - 1), tn - ss i) hP hK hD hS ⟨zInv_remove hI hi hrc hkr, rfl, rfl, rfl⟩
set_option maxHeartbeats 4000000 in
set_option maxRecDepth 100000 in
theorem metX0_cut (l : Launch) (G : va_G) (sz : Nat) {h0 a1 a2 a3 : Nat} {dA : ClassId} {F : Nat → Bool} {cn tn : Nat} {pp ss kk : Nat → Nat} (hI : zInv F cn pp ss kk tn) {i f nn : Nat} (hi : i < cn) (hf : pp i ≤ f) (hn : 1 ≤ nn) (hfn : f + nn ≤ pp i + ss i) : zMU l yX0_cut cX0_cut 6 (none) ({ frames := 2, cells := 0, slots := 0, locals := 49 } : Room) G (wX h0 a1 a2 a3 dA cn pp ss kk tn) [(dA, .int)] [.ref h0, .int (zI ((i : Nat) : Int)), .int (zI ((f : Nat) : Int)), .int (zI ((nn : Nat) : Int))] sz (zQv G [(dA, .int)] (wXu h0 a1 a2 a3 dA) (fun u => zIv (zM F f nn false) u)) 0 0 := by
  refine zmu_enter (by decide) (Nat.le_of_ble_eq_true rfl) ?_
  intro p e s m below meth c A H locs hx hb hr hml hown hlocks hnm hts hA hP hK hD hS ls hl
  have hown : s.vm.findClass RX0 = some m.cls := hown
  have hl : lv_has ls 6 [(0, .ref h0), (1, .int (zI ((i : Nat) : Int))), (2, .int (zI ((f : Nat) : Int))), (3, .int (zI ((nn : Nat) : Int)))] := hl
  have hc128 := zInv_c hI
  have ht256 := zInv_t hI
  have hps := hI.1 i hi
  have hst := zInv_st hI hi
  refine lv_aload_n hx hb dX0_cut_0 rfl (lv_at hl 0 rfl) ?_
  refine va_get (D := G) (ci := 0) (v := .ref a1) (C := RX0) (T := TX0) (N := 5) hx hb hts in_X0 hown hK hP 0 rfl rfl 1 (by decide) (hts _ q42) (fun _ h9 => h9) rfl dX0_cut_1 ?_
  refine lv_iload_n hx hb dX0_cut_4 rfl (lv_at hl 1 rfl) ?_
  refine zr_iald hx hb hK hP 1 0 rfl rfl i rfl (by omega) (by decide) dX0_cut_5 ?_
  refine lv_istore (lv' := [(4, .int (zI ((pp i : Nat) : Int))), (0, .ref h0), (1, .int (zI ((i : Nat) : Int))), (2, .int (zI ((f : Nat) : Int))), (3, .int (zI ((nn : Nat) : Int)))]) hx hb dX0_cut_6 hl (by decide) rfl (fun ls hl => ?_)
  refine lv_iload hx hb dX0_cut_8 (lv_at hl 0 rfl) ?_
  refine lv_aload_n hx hb dX0_cut_10 rfl (lv_at hl 1 rfl) ?_
  refine va_get (D := G) (ci := 0) (v := .ref a2) (C := RX0) (T := TX0) (N := 5) hx hb hts in_X0 hown hK hP 0 rfl rfl 2 (by decide) (hts _ q43) (fun _ h9 => h9) rfl dX0_cut_11 ?_
  refine lv_iload_n hx hb dX0_cut_14 rfl (lv_at hl 2 rfl) ?_
  refine zr_iald hx hb hK hP 2 0 rfl rfl i rfl (by omega) (by decide) dX0_cut_15 ?_
  refine zr_iaddN hx hb dX0_cut_16 ?_
  refine lv_istore (lv' := [(5, .int (zI (((pp i) + (ss i) : Nat) : Int))), (4, .int (zI ((pp i : Nat) : Int))), (0, .ref h0), (1, .int (zI ((i : Nat) : Int))), (2, .int (zI ((f : Nat) : Int))), (3, .int (zI ((nn : Nat) : Int)))]) hx hb dX0_cut_17 hl (by decide) rfl (fun ls hl => ?_)
  refine lv_aload_n hx hb dX0_cut_19 rfl (lv_at hl 2 rfl) ?_
  refine lv_iload_n hx hb dX0_cut_20 rfl (lv_at hl 3 rfl) ?_
  refine zc_muv (n := 1) (As := [.int (zI ((i : Nat) : Int))]) (rest := []) ⟨hx, hb, hml, hown, hts⟩ (metX0_remove l G H.size hI hi) (lw_V q69 q71 qs4 q15 q72) ⟨rfl, rfl⟩ (by decide +kernel) ⟨Nat.le_of_ble_eq_true rfl, Nat.le_of_ble_eq_true rfl⟩ hK hP hD hS hA 0 0 rfl rfl rfl rfl rfl hl (by decide) ⟨Nat.zero_le _, Nat.zero_le _⟩ dX0_cut_21 (fun u21 H locs h21 hP hD hS => ?_)
  obtain ⟨c1, p1, s1, k1, t1⟩ := u21
  have hP : va_P G vwCl (wX h0 a1 a2 a3 dA c1 p1 s1 k1 t1) H := hP
  have hD : va_D A (wX h0 a1 a2 a3 dA c1 p1 s1 k1 t1) := hD
  refine lv_iload_n hx hb dX0_cut_24 rfl (lv_at hl 4 rfl) ?_
  refine lv_iload hx hb dX0_cut_25 (lv_at hl 1 rfl) ?_
  refine zr_icmp_le (tgt := 40) hx hb dX0_cut_27 (by decide) (by omega) (fun c27 => ?_) (fun c27 => ?_)
  · refine lv_iload_n hx hb dX0_cut_40 rfl (lv_at hl 4 rfl) ?_
    refine lv_iload_n hx hb dX0_cut_41 rfl (lv_at hl 5 rfl) ?_
    refine zr_iaddN hx hb dX0_cut_42 ?_
    refine lv_iload hx hb dX0_cut_43 (lv_at hl 0 rfl) ?_
    refine zr_icmp_ge (tgt := 61) hx hb dX0_cut_45 (by decide) (by omega) (fun c45 => ?_) (fun c45 => ?_)
    · exact zret_muv hx hb hr hlocks dX0_cut_61 (c1, p1, s1, k1, t1) hP hK hD hS (by have e9 := zM_cut (F := F) (p := pp i) (s := ss i) (f := f) (n := nn) (fun b g1 g2 => zInv_in hI hi g1 g2) (by omega) (by omega); rw [show pp i + ss i - f - nn = 0 by omega, zM_zero, show f - pp i = 0 by omega, zM_zero] at e9; rw [← e9]; exact h21.1)
    · refine lv_aload_n hx hb dX0_cut_48 rfl (lv_at hl 2 rfl) ?_
      refine lv_iload_n hx hb dX0_cut_49 rfl (lv_at hl 4 rfl) ?_
      refine lv_iload_n hx hb dX0_cut_50 rfl (lv_at hl 5 rfl) ?_
      refine zr_iaddN hx hb dX0_cut_51 ?_
      refine lv_iload hx hb dX0_cut_52 (lv_at hl 0 rfl) ?_
      refine lv_iload_n hx hb dX0_cut_54 rfl (lv_at hl 4 rfl) ?_
      refine zr_isubN hx hb (by omega) dX0_cut_55 ?_
      refine lv_iload_n hx hb dX0_cut_56 rfl (lv_at hl 5 rfl) ?_
      refine zr_isubN hx hb (by omega) dX0_cut_57 ?_
      refine zc_muv (n := 2) (As := [.int (zI ((f + nn : Nat) : Int)), .int (zI (((((pp i) + (ss i)) - f) - nn : Nat) : Int))]) (rest := []) ⟨hx, hb, hml, hown, hts⟩ (metX0_insert l G H.size h21.1 (f := f + nn) (nn := ((pp i + ss i) - f) - nn) (by omega) (by omega) (zcut_sep2 hI hi (by omega) (by omega) (by omega))) (lw_V q29 q31 qs0 q15 q32) ⟨rfl, rfl⟩ (by decide +kernel) ⟨Nat.le_of_ble_eq_true rfl, Nat.le_of_ble_eq_true rfl⟩ hK hP hD hS hA 0 0 rfl rfl rfl rfl rfl hl (by decide) ⟨Nat.zero_le _, Nat.zero_le _⟩ dX0_cut_58 (fun u58 H locs h58 hP hD hS => ?_)
      obtain ⟨c3, p3, s3, k3, t3⟩ := u58
      have hP : va_P G vwCl (wX h0 a1 a2 a3 dA c3 p3 s3 k3 t3) H := hP
      have hD : va_D A (wX h0 a1 a2 a3 dA c3 p3 s3 k3 t3) := hD
      exact zret_muv hx hb hr hlocks dX0_cut_61 (c3, p3, s3, k3, t3) hP hK hD hS (by have e9 := zM_cut (F := F) (p := pp i) (s := ss i) (f := f) (n := nn) (fun b g1 g2 => zInv_in hI hi g1 g2) (by omega) (by omega); rw [show f - pp i = 0 by omega, zM_zero] at e9; rw [← e9]; exact h58)
  · refine lv_aload_n hx hb dX0_cut_30 rfl (lv_at hl 2 rfl) ?_
    refine lv_iload hx hb dX0_cut_31 (lv_at hl 1 rfl) ?_
    refine lv_iload_n hx hb dX0_cut_33 rfl (lv_at hl 4 rfl) ?_
    refine lv_iload hx hb dX0_cut_34 (lv_at hl 1 rfl) ?_
    refine zr_isubN hx hb (by omega) dX0_cut_36 ?_
    refine zc_muv (n := 2) (As := [.int (zI ((pp i : Nat) : Int)), .int (zI ((f - (pp i) : Nat) : Int))]) (rest := []) ⟨hx, hb, hml, hown, hts⟩ (metX0_insert l G H.size h21.1 (f := pp i) (nn := f - pp i) (by omega) (by omega) (zcut_sep1 hI hi (by omega) (by omega))) (lw_V q29 q31 qs0 q15 q32) ⟨rfl, rfl⟩ (by decide +kernel) ⟨Nat.le_of_ble_eq_true rfl, Nat.le_of_ble_eq_true rfl⟩ hK hP hD hS hA 0 0 rfl rfl rfl rfl rfl hl (by decide) ⟨Nat.zero_le _, Nat.zero_le _⟩ dX0_cut_37 (fun u37 H locs h37 hP hD hS => ?_)
    obtain ⟨c2, p2, s2, k2, t2⟩ := u37
    have hP : va_P G vwCl (wX h0 a1 a2 a3 dA c2 p2 s2 k2 t2) H := hP
    have hD : va_D A (wX h0 a1 a2 a3 dA c2 p2 s2 k2 t2) := hD
    refine lv_iload_n hx hb dX0_cut_40 rfl (lv_at hl 4 rfl) ?_
    refine lv_iload_n hx hb dX0_cut_41 rfl (lv_at hl 5 rfl) ?_
    refine zr_iaddN hx hb dX0_cut_42 ?_
    refine lv_iload hx hb dX0_cut_43 (lv_at hl 0 rfl) ?_
    refine zr_icmp_ge (tgt := 61) hx hb dX0_cut_45 (by decide) (by omega) (fun c45 => ?_) (fun c45 => ?_)
    · exact zret_muv hx hb hr hlocks dX0_cut_61 (c2, p2, s2, k2, t2) hP hK hD hS (by have e9 := zM_cut (F := F) (p := pp i) (s := ss i) (f := f) (n := nn) (fun b g1 g2 => zInv_in hI hi g1 g2) (by omega) (by omega); rw [show pp i + ss i - f - nn = 0 by omega, zM_zero] at e9; rw [← e9]; exact h37)
    · refine lv_aload_n hx hb dX0_cut_48 rfl (lv_at hl 2 rfl) ?_
      refine lv_iload_n hx hb dX0_cut_49 rfl (lv_at hl 4 rfl) ?_
      refine lv_iload_n hx hb dX0_cut_50 rfl (lv_at hl 5 rfl) ?_
      refine zr_iaddN hx hb dX0_cut_51 ?_
      refine lv_iload hx hb dX0_cut_52 (lv_at hl 0 rfl) ?_
      refine lv_iload_n hx hb dX0_cut_54 rfl (lv_at hl 4 rfl) ?_
      refine zr_isubN hx hb (by omega) dX0_cut_55 ?_
      refine lv_iload_n hx hb dX0_cut_56 rfl (lv_at hl 5 rfl) ?_
      refine zr_isubN hx hb (by omega) dX0_cut_57 ?_
      refine zc_muv (n := 2) (As := [.int (zI ((f + nn : Nat) : Int)), .int (zI (((((pp i) + (ss i)) - f) - nn : Nat) : Int))]) (rest := []) ⟨hx, hb, hml, hown, hts⟩ (metX0_insert l G H.size h37 (f := f + nn) (nn := ((pp i + ss i) - f) - nn) (by omega) (by omega) (zcut_sep3 hI hi (by omega) (by omega) (by omega))) (lw_V q29 q31 qs0 q15 q32) ⟨rfl, rfl⟩ (by decide +kernel) ⟨Nat.le_of_ble_eq_true rfl, Nat.le_of_ble_eq_true rfl⟩ hK hP hD hS hA 0 0 rfl rfl rfl rfl rfl hl (by decide) ⟨Nat.zero_le _, Nat.zero_le _⟩ dX0_cut_58 (fun u58 H locs h58 hP hD hS => ?_)
      obtain ⟨c3, p3, s3, k3, t3⟩ := u58
      have hP : va_P G vwCl (wX h0 a1 a2 a3 dA c3 p3 s3 k3 t3) H := hP
      have hD : va_D A (wX h0 a1 a2 a3 dA c3 p3 s3 k3 t3) := hD
      exact zret_muv hx hb hr hlocks dX0_cut_61 (c3, p3, s3, k3, t3) hP hK hD hS (by have e9 := zM_cut (F := F) (p := pp i) (s := ss i) (f := f) (n := nn) (fun b g1 g2 => zInv_in hI hi g1 g2) (by omega) (by omega); rw [← e9]; exact h58)
end
section
/-! what each call answers, and the map behind it: one relation a call, each of them single-valued -/
def zAw (a b : Nat) : Nat := (a - b) + (b - a)
def zsTake (F : Nat → Bool) (n r : Int) (F' : Nat → Bool) : Prop :=
  ((n < 1 ∨ 256 < n) ∧ r = -2 ∧ F' = F) ∨
  ∃ j : Nat, n = (j : Int) ∧ 1 ≤ j ∧ j ≤ 256 ∧ (((∀ b, zBg F b = true → zRun F b < j) ∧ r = -3 ∧ F' = F) ∨
    ∃ b : Nat, zBg F b = true ∧ j ≤ zRun F b ∧ (∀ x, zBg F x = true → j ≤ zRun F x → zRun F b < zRun F x ∨ (zRun F b = zRun F x ∧ b ≤ x)) ∧ r = (b : Int) ∧ F' = zM F b j false)
def zsNear (F : Nat → Bool) (q n r : Int) (F' : Nat → Bool) : Prop :=
  ((q < 0 ∨ 256 ≤ q) ∧ r = -1 ∧ F' = F) ∨
  ∃ y : Nat, q = (y : Int) ∧ y < 256 ∧ (((n < 1 ∨ 256 < n) ∧ r = -2 ∧ F' = F) ∨
  ∃ j : Nat, n = (j : Int) ∧ 1 ≤ j ∧ j ≤ 256 ∧ (((∀ b, zBg F b = true → zRun F b < j) ∧ r = -3 ∧ F' = F) ∨
    ∃ b : Nat, zBg F b = true ∧ j ≤ zRun F b ∧ (∀ x, zBg F x = true → j ≤ zRun F x → zAw b y < zAw x y ∨ (zAw b y = zAw x y ∧ b ≤ x)) ∧ r = (b : Int) ∧ F' = zM F b j false))
def zsAt (F : Nat → Bool) (f n r : Int) (F' : Nat → Bool) : Prop :=
  ((f < 0 ∨ 256 ≤ f) ∧ r = -1 ∧ F' = F) ∨
  ∃ x : Nat, f = (x : Int) ∧ x < 256 ∧ (((n < 1 ∨ 256 < f + n) ∧ r = -2 ∧ F' = F) ∨
  ∃ j : Nat, n = (j : Int) ∧ 1 ≤ j ∧ x + j ≤ 256 ∧ (((∃ b, x ≤ b ∧ b < x + j ∧ F b = false) ∧ r = -4 ∧ F' = F) ∨
    ((∀ b, x ≤ b → b < x + j → F b = true) ∧ F' = zM F x j false ∧ r = ((zCt (zBg F') 256 : Nat) : Int))))
/-- the size of the extent that b is in -/
def zsSz (F : Nat → Bool) (b : Nat) (r : Int) : Prop :=
  (F b = false ∧ r = 0) ∨ ∃ f e : Nat, f ≤ b ∧ b < e ∧ (∀ x, f ≤ x → x < e → F x = true) ∧ (f = 0 ∨ F (f - 1) = false) ∧ F e = false ∧ r = ((e - f : Nat) : Int)
def zsGive (F : Nat → Bool) (f n r : Int) (F' : Nat → Bool) : Prop :=
  ((f < 0 ∨ 256 ≤ f) ∧ r = -1 ∧ F' = F) ∨
  ∃ x : Nat, f = (x : Int) ∧ x < 256 ∧ (((n < 1 ∨ 256 < f + n) ∧ r = -2 ∧ F' = F) ∨
  ∃ j : Nat, n = (j : Int) ∧ 1 ≤ j ∧ x + j ≤ 256 ∧ (((∃ b, x ≤ b ∧ b < x + j ∧ F b = true) ∧ r = -5 ∧ F' = F) ∨
    ((∀ b, x ≤ b → b < x + j → F b = false) ∧ F' = zM F x j true ∧ zsSz F' x r)))
/-- a largest extent begins at b, the first of them -/
def zLg (F : Nat → Bool) (b : Nat) : Prop := zBg F b = true ∧ ∀ x, zBg F x = true → zRun F x < zRun F b ∨ (zRun F x = zRun F b ∧ b ≤ x)
def zPS : Nat → (Nat → Bool) → Nat → Nat → Nat → (Nat → Bool) → Prop
  | 0, F, _, g, r, F' => r = g ∧ F' = F
  | d + 1, F, n, g, r, F' => ((n ≤ g ∨ ∀ b, zBg F b = false) ∧ r = g ∧ F' = F) ∨ (g < n ∧ ∃ b, zLg F b ∧ zPS d (zM F b (min (zRun F b) (n - g)) false) n (g + min (zRun F b) (n - g)) r F')
def zsPieces (F : Nat → Bool) (n r : Int) (F' : Nat → Bool) : Prop :=
  ((n < 1 ∨ 256 < n) ∧ r = -2 ∧ F' = F) ∨ ∃ j g : Nat, n = (j : Int) ∧ 1 ≤ j ∧ j ≤ 256 ∧ r = (g : Int) ∧ zPS 256 F j 0 g F'
def zsNext (F : Nat → Bool) (b r : Int) : Prop :=
  ((b < 0 ∨ 256 ≤ b) ∧ r = -1) ∨ ∃ x : Nat, b = (x : Int) ∧ x < 256 ∧ (((∀ y, x ≤ y → zBg F y = false) ∧ r = -6) ∨ ∃ y : Nat, x ≤ y ∧ zBg F y = true ∧ (∀ z, x ≤ z → z < y → zBg F z = false) ∧ r = (y : Int))
def zsSizeAt (F : Nat → Bool) (b r : Int) : Prop :=
  ((b < 0 ∨ 256 ≤ b) ∧ r = -1) ∨ ∃ x : Nat, b = (x : Int) ∧ x < 256 ∧ zsSz F x r
def zKy (F : Nat → Bool) (x : Nat) : Bool := zBg F (x % 256) && decide (zRun F (x % 256) = x / 256)
def zsBySize (F : Nat → Bool) (i r : Int) : Prop :=
  (∃ x : Nat, zKy F x = true ∧ i = ((zCt (zKy F) x : Nat) : Int) ∧ r = ((x % 256 : Nat) : Int)) ∨ ((∀ x, zKy F x = true → i ≠ ((zCt (zKy F) x : Nat) : Int)) ∧ r = -6)
def zsLargest (F : Nat → Bool) (r : Int) : Prop := ∃ m : Nat, r = (m : Int) ∧ (∀ b, zRun F b ≤ m) ∧ (m = 0 ∨ ∃ b, zRun F b = m)
def zAl (F : Nat → Bool) (n : Int) (b : Nat) : Bool := zBg F b && decide (n ≤ ((zRun F b : Nat) : Int))
def zFr (F : Nat → Bool) (b : Int) : Prop := 0 ≤ b ∧ b < 256 ∧ F b.toNat = true
-- single-valued
theorem zB_det {P : Prop} {a b : Int32} (h1 : zB P a) (h2 : zB P b) : a = b := by
  rcases h1 with ⟨e1, p1⟩ | ⟨e1, p1⟩ <;> rcases h2 with ⟨e2, p2⟩ | ⟨e2, p2⟩
  · rw [e1, e2]
  · exact absurd p1 p2
  · exact absurd p2 p1
  · rw [e1, e2]
section Det
variable {F F1 F2 : Nat → Bool} {a b n r1 r2 : Int}
theorem zsTake_det (h1 : zsTake F n r1 F1) (h2 : zsTake F n r2 F2) : r1 = r2 ∧ F1 = F2 := by
  rcases h1 with ⟨a1, a2, a3⟩ | ⟨j, a1, a2, a3, a4⟩ <;> rcases h2 with ⟨b1, b2, b3⟩ | ⟨i, b1, b2, b3, b4⟩
  · exact ⟨by omega, by rw [a3, b3]⟩
  · exfalso; omega
  · exfalso; omega
  · have e : j = i := by omega
    subst e
    rcases a4 with ⟨a4, a5, a6⟩ | ⟨x, a4, a5, a6, a7, a8⟩ <;> rcases b4 with ⟨b4, b5, b6⟩ | ⟨y, b4, b5, b6, b7, b8⟩
    · exact ⟨by omega, by rw [a6, b6]⟩
    · have := a4 y b4; exfalso; omega
    · have := b4 x a4; exfalso; omega
    · have c1 := a6 y b4 b5
      have c2 := b6 x a4 a5
      have e : x = y := by omega
      subst e
      exact ⟨by omega, by rw [a8, b8]⟩
theorem zsNear_det (h1 : zsNear F a n r1 F1) (h2 : zsNear F a n r2 F2) : r1 = r2 ∧ F1 = F2 := by
  rcases h1 with ⟨a1, a2, a3⟩ | ⟨y1, d1, d2, h1⟩ <;> rcases h2 with ⟨b1, b2, b3⟩ | ⟨y2, g1, g2, h2⟩
  · exact ⟨by omega, by rw [a3, b3]⟩
  · exfalso; omega
  · exfalso; omega
  · have e : y1 = y2 := by omega
    subst e
    rcases h1 with ⟨a1, a2, a3⟩ | ⟨j, a1, a2, a3, a4⟩ <;> rcases h2 with ⟨b1, b2, b3⟩ | ⟨i, b1, b2, b3, b4⟩
    · exact ⟨by omega, by rw [a3, b3]⟩
    · exfalso; omega
    · exfalso; omega
    · have e : j = i := by omega
      subst e
      rcases a4 with ⟨a4, a5, a6⟩ | ⟨x, a4, a5, a6, a7, a8⟩ <;> rcases b4 with ⟨b4, b5, b6⟩ | ⟨y, b4, b5, b6, b7, b8⟩
      · exact ⟨by omega, by rw [a6, b6]⟩
      · have := a4 y b4; exfalso; omega
      · have := b4 x a4; exfalso; omega
      · have c1 := a6 y b4 b5
        have c2 := b6 x a4 a5
        have e : x = y := by omega
        subst e
        exact ⟨by omega, by rw [a8, b8]⟩
theorem zsAt_det (h1 : zsAt F a n r1 F1) (h2 : zsAt F a n r2 F2) : r1 = r2 ∧ F1 = F2 := by
  rcases h1 with ⟨a1, a2, a3⟩ | ⟨y1, d1, d2, h1⟩ <;> rcases h2 with ⟨b1, b2, b3⟩ | ⟨y2, g1, g2, h2⟩
  · exact ⟨by omega, by rw [a3, b3]⟩
  · exfalso; omega
  · exfalso; omega
  · have e : y1 = y2 := by omega
    subst e
    rcases h1 with ⟨a1, a2, a3⟩ | ⟨j, a1, a2, a3, a4⟩ <;> rcases h2 with ⟨b1, b2, b3⟩ | ⟨i, b1, b2, b3, b4⟩
    · exact ⟨by omega, by rw [a3, b3]⟩
    · exfalso; omega
    · exfalso; omega
    · have e : j = i := by omega
      subst e
      rcases a4 with ⟨⟨x, a4, a5, a6⟩, a7, a8⟩ | ⟨a4, a5, a6⟩ <;> rcases b4 with ⟨⟨y, b4, b5, b6⟩, b7, b8⟩ | ⟨b4, b5, b6⟩
      · exact ⟨by omega, by rw [a8, b8]⟩
      · have := b4 x a4 a5; rw [a6] at this; cases this
      · have := a4 y b4 b5; rw [b6] at this; cases this
      · have e : F1 = F2 := by rw [a5, b5]
        exact ⟨by rw [a6, b6, e], e⟩
theorem zsSz_det {x : Nat} (h1 : zsSz F x r1) (h2 : zsSz F x r2) : r1 = r2 := by
  rcases h1 with ⟨a1, a2⟩ | ⟨f, e, a1, a2, a3, a4, a5, a6⟩ <;> rcases h2 with ⟨b1, b2⟩ | ⟨f', e', b1, b2, b3, b4, b5, b6⟩
  · omega
  · have := b3 x b1 b2; rw [a1] at this; cases this
  · have := a3 x a1 a2; rw [b1] at this; cases this
  · have hf : f = f' := by
      rcases Nat.lt_trichotomy f f' with q | q | q
      · rcases b4 with b4 | b4
        · omega
        · have := a3 (f' - 1) (by omega) (by omega); rw [b4] at this; cases this
      · exact q
      · rcases a4 with a4 | a4
        · omega
        · have := b3 (f - 1) (by omega) (by omega); rw [a4] at this; cases this
    have he : e = e' := by
      rcases Nat.lt_trichotomy e e' with q | q | q
      · have := b3 e (by omega) q; rw [a5] at this; cases this
      · exact q
      · have := a3 e' (by omega) q; rw [b5] at this; cases this
    rw [a6, b6, hf, he]
theorem zsGive_det (h1 : zsGive F a n r1 F1) (h2 : zsGive F a n r2 F2) : r1 = r2 ∧ F1 = F2 := by
  rcases h1 with ⟨a1, a2, a3⟩ | ⟨y1, d1, d2, h1⟩ <;> rcases h2 with ⟨b1, b2, b3⟩ | ⟨y2, g1, g2, h2⟩
  · exact ⟨by omega, by rw [a3, b3]⟩
  · exfalso; omega
  · exfalso; omega
  · have e : y1 = y2 := by omega
    subst e
    rcases h1 with ⟨a1, a2, a3⟩ | ⟨j, a1, a2, a3, a4⟩ <;> rcases h2 with ⟨b1, b2, b3⟩ | ⟨i, b1, b2, b3, b4⟩
    · exact ⟨by omega, by rw [a3, b3]⟩
    · exfalso; omega
    · exfalso; omega
    · have e : j = i := by omega
      subst e
      rcases a4 with ⟨⟨x, a4, a5, a6⟩, a7, a8⟩ | ⟨a4, a5, a6⟩ <;> rcases b4 with ⟨⟨y, b4, b5, b6⟩, b7, b8⟩ | ⟨b4, b5, b6⟩
      · exact ⟨by omega, by rw [a8, b8]⟩
      · have := b4 x a4 a5; rw [a6] at this; cases this
      · have := a4 y b4 b5; rw [b6] at this; cases this
      · have e : F1 = F2 := by rw [a5, b5]
        subst e
        exact ⟨zsSz_det a6 b6, rfl⟩
theorem zLg_det {x y : Nat} (h1 : zLg F x) (h2 : zLg F y) : x = y := by
  have a1 := h1.2 y h2.1
  have a2 := h2.2 x h1.1
  omega
theorem zPS_det : ∀ (d : Nat) (F : Nat → Bool) (n g r1 r2 : Nat) (F1 F2 : Nat → Bool), zPS d F n g r1 F1 → zPS d F n g r2 F2 → r1 = r2 ∧ F1 = F2 := by
  intro d
  induction d with
  | zero =>
    intro F n g r1 r2 F1 F2 h1 h2
    exact ⟨h1.1.trans h2.1.symm, h1.2.trans h2.2.symm⟩
  | succ d ih =>
    intro F n g r1 r2 F1 F2 h1 h2
    rcases h1 with ⟨a1, a2, a3⟩ | ⟨a1, x, a2, a3⟩ <;> rcases h2 with ⟨b1, b2, b3⟩ | ⟨b1, y, b2, b3⟩
    · exact ⟨a2.trans b2.symm, a3.trans b3.symm⟩
    · rcases a1 with a1 | a1
      · omega
      · have := b2.1; rw [a1 y] at this; cases this
    · rcases b1 with b1 | b1
      · omega
      · have := a2.1; rw [b1 x] at this; cases this
    · have e := zLg_det a2 b2
      subst e
      exact ih _ _ _ _ _ _ _ a3 b3
theorem zsPieces_det (h1 : zsPieces F n r1 F1) (h2 : zsPieces F n r2 F2) : r1 = r2 ∧ F1 = F2 := by
  rcases h1 with ⟨a1, a2, a3⟩ | ⟨j, g, a1, a2, a3, a4, a5⟩ <;> rcases h2 with ⟨b1, b2, b3⟩ | ⟨i, g', b1, b2, b3, b4, b5⟩
  · exact ⟨by omega, by rw [a3, b3]⟩
  · exfalso; omega
  · exfalso; omega
  · have e : j = i := by omega
    subst e
    have := zPS_det _ _ _ _ _ _ _ _ a5 b5
    exact ⟨by omega, this.2⟩
theorem zsNext_det (h1 : zsNext F a r1) (h2 : zsNext F a r2) : r1 = r2 := by
  rcases h1 with ⟨a1, a2⟩ | ⟨x, a1, a2, a3⟩ <;> rcases h2 with ⟨b1, b2⟩ | ⟨x', b1, b2, b3⟩
  · omega
  · exfalso; omega
  · exfalso; omega
  · have e : x = x' := by omega
    subst e
    rcases a3 with ⟨a3, a4⟩ | ⟨y, a3, a4, a5, a6⟩ <;> rcases b3 with ⟨b3, b4⟩ | ⟨z, b3, b4, b5, b6⟩
    · omega
    · have := a3 z b3; rw [b4] at this; cases this
    · have := b3 y a3; rw [a4] at this; cases this
    · rcases Nat.lt_trichotomy y z with q | q | q
      · have := b5 y a3 q; rw [a4] at this; cases this
      · omega
      · have := a5 z b3 q; rw [b4] at this; cases this
theorem zsSizeAt_det (h1 : zsSizeAt F a r1) (h2 : zsSizeAt F a r2) : r1 = r2 := by
  rcases h1 with ⟨a1, a2⟩ | ⟨x, a1, a2, a3⟩ <;> rcases h2 with ⟨b1, b2⟩ | ⟨x', b1, b2, b3⟩
  · omega
  · exfalso; omega
  · exfalso; omega
  · have e : x = x' := by omega
    subst e
    exact zsSz_det a3 b3
theorem zsBySize_det (h1 : zsBySize F a r1) (h2 : zsBySize F a r2) : r1 = r2 := by
  rcases h1 with ⟨x, a1, a2, a3⟩ | ⟨a1, a2⟩ <;> rcases h2 with ⟨y, b1, b2, b3⟩ | ⟨b1, b2⟩
  · have e : x = y := by
      rcases Nat.lt_trichotomy x y with q | q | q
      · have := zCt_lt (zKy F) q a1; omega
      · exact q
      · have := zCt_lt (zKy F) q b1; omega
    rw [a3, b3, e]
  · exact absurd a2 (b1 x a1)
  · exact absurd b2 (a1 y b1)
  · omega
theorem zsLargest_det (h1 : zsLargest F r1) (h2 : zsLargest F r2) : r1 = r2 := by
  obtain ⟨x, a1, a2, a3⟩ := h1
  obtain ⟨y, b1, b2, b3⟩ := h2
  have c1 : x ≤ y := by
    rcases a3 with q | ⟨z, q⟩
    · omega
    · have := b2 z; omega
  have c2 : y ≤ x := by
    rcases b3 with q | ⟨z, q⟩
    · omega
    · have := a2 z; omega
  omega
end Det
end
section
/-! what the index finds, in words of the map -/
section ZX
variable {F : Nat → Bool} {c t : Nat} {p s k : Nat → Nat}
theorem zx_key (h : zInv F c p s k t) {r : Nat} (hr : r < c) : ∃ i, i < c ∧ k r = s i * 256 + p i ∧ k r % 256 = p i ∧ k r / 256 = s i := by
  obtain ⟨i, hi, e⟩ := h.2.2.2.2.1 r hr
  have a := zInv_p h i hi
  exact ⟨i, hi, e, by omega, by omega⟩
theorem zx_first (h : zInv F c p s k t) {i x : Nat} (hi : i < c) (hx : x ≤ c) (h1 : ∀ j, j < x → p j < p i) (h2 : ∀ j, x ≤ j → j < c → p i ≤ p j) : x = i := by
  rcases Nat.lt_trichotomy x i with q | q | q
  · have a := h2 x (Nat.le_refl _) (by omega)
    have b := zInv_pm h x i q hi
    omega
  · exact q
  · have a := h1 i q
    omega
theorem zx_bgr (h : zInv F c p s k t) {b : Nat} (hb : zBg F b = true) : ∃ i, i < c ∧ p i = b ∧ zRun F b = s i := by
  obtain ⟨i, hi, e⟩ := (zInv_bg h b).mp hb
  exact ⟨i, hi, e, by rw [← e]; exact zInv_run h hi⟩
theorem zx_bg (h : zInv F c p s k t) {i : Nat} (hi : i < c) : zBg F (p i) = true := (zInv_bg h _).mpr ⟨i, hi, rfl⟩
theorem zx_none (h : zInv F c p s k t) {j : Nat} (h3 : ∀ i, i < c → k i < j * 256) : ∀ b, zBg F b = true → zRun F b < j := by
  intro b hb
  obtain ⟨i, hi, e1, e2⟩ := zx_bgr h hb
  obtain ⟨x, hx, e3⟩ := h.2.2.2.2.2.1 i hi
  have := h3 x hx
  omega
theorem zx_some (h : zInv F c p s k t) {j r i : Nat} (hr : r < c) (h3 : ∀ i, i < r → k i < j * 256) (h4 : ∀ i, r ≤ i → i < c → j * 256 ≤ k i) (hi : i < c) (e : k r = s i * 256 + p i) :
    zBg F (p i) = true ∧ j ≤ zRun F (p i) ∧ ∀ x, zBg F x = true → j ≤ zRun F x → zRun F (p i) < zRun F x ∨ (zRun F (p i) = zRun F x ∧ p i ≤ x) := by
  have a := zInv_p h i hi
  have b := h4 r (Nat.le_refl _) hr
  rw [zInv_run h hi]
  refine ⟨zx_bg h hi, by omega, fun x hx hjx => ?_⟩
  obtain ⟨y, hy, e1, e2⟩ := zx_bgr h hx
  obtain ⟨z, hz, e3⟩ := h.2.2.2.2.2.1 y hy
  have a2 := zInv_p h y hy
  have hzr : k r ≤ k z := by
    rcases Nat.lt_trichotomy z r with q | q | q
    · have := h3 z q; omega
    · rw [q]; exact Nat.le_refl _
    · exact Nat.le_of_lt (h.2.2.2.1 r z q hz)
  omega
theorem zx_lg (h : zInv F c p s k t) (hc : 0 < c) {r i : Nat} (hr : r < c) (h3 : ∀ i, i < r → k i < k (c - 1) / 256 * 256) (h4 : ∀ i, r ≤ i → i < c → k (c - 1) / 256 * 256 ≤ k i) (hi : i < c) (e : k r = s i * 256 + p i) : zLg F (p i) := by
  refine ⟨zx_bg h hi, fun x hx => ?_⟩
  obtain ⟨y, hy, e1, e2⟩ := zx_bgr h hx
  rw [e2, zInv_run h hi]
  obtain ⟨z, hz, e3⟩ := h.2.2.2.2.2.1 y hy
  have a1 := zInv_p h i hi
  have a2 := zInv_p h y hy
  have b := h4 r (Nat.le_refl _) hr
  have kmax : ∀ q, q < c → k q ≤ k (c - 1) := by
    intro q hq
    rcases Nat.eq_or_lt_of_le (show q ≤ c - 1 by omega) with w | w
    · rw [w]; exact Nat.le_refl _
    · exact Nat.le_of_lt (h.2.2.2.1 q (c - 1) w (by omega))
  have b1 := kmax r hr
  have b2 := kmax z hz
  rcases Nat.lt_trichotomy z r with q | q | q
  · have := h3 z q; omega
  · subst q; omega
  · have := h.2.2.2.1 r z q hz; omega
theorem zx_lgr (h : zInv F c p s k t) (hc : 0 < c) {r : Nat} (hr : r ≤ c) (h3 : ∀ i, i < r → k i < k (c - 1) / 256 * 256) : r < c := by
  rcases Nat.lt_or_ge r c with q | q
  · exact q
  · have := h3 (c - 1) (by omega)
    omega
/-- the extent of a free block, from the search -/
theorem zx_ext (h : zInv F c p s k t) {b x : Nat} (hx : x + 1 ≤ c) (h1 : ∀ j, j < x + 1 → p j < b + 1) (h2 : ∀ j, x + 1 ≤ j → j < c → b + 1 ≤ p j) (h3 : p x + s x ≤ b) : F b = false := by
  cases hF : F b with
  | false => rfl
  | true =>
    obtain ⟨i, hi, e1, e2⟩ := (h.2.2.1 b).mp hF
    rcases Nat.lt_trichotomy i x with q | q | q
    · have := h.2.1 i x q (by omega)
      have := h1 x (by omega)
      omega
    · subst q; omega
    · have := h2 i q hi; omega
theorem zx_ext0 (h : zInv F c p s k t) {b : Nat} (h2 : ∀ j, 0 ≤ j → j < c → b + 1 ≤ p j) : F b = false := by
  cases hF : F b with
  | false => rfl
  | true =>
    obtain ⟨i, hi, e1, e2⟩ := (h.2.2.1 b).mp hF
    have := h2 i (Nat.zero_le _) hi
    omega
theorem zx_sz (h : zInv F c p s k t) {i b : Nat} (hi : i < c) (h1 : p i ≤ b) (h2 : b < p i + s i) : zsSz F b ((s i : Nat) : Int) := by
  refine Or.inr ⟨p i, p i + s i, h1, h2, fun x g1 g2 => zInv_in h hi g1 g2, (zBg_iff.mp (zx_bg h hi)).2, zInv_end h hi, ?_⟩
  omega
theorem zx_count (h : zInv F c p s k t) : zCt (zBg F) 256 = c := zCt_enum (zInv_pm h) 256 (fun x _ => zInv_bg h x) c (Nat.le_refl _) (fun j hj => by have := zInv_p h j hj; omega) (fun j h1 h2 => by omega)
theorem zx_ky (h : zInv F c p s k t) (x : Nat) : zKy F x = true ↔ ∃ j, j < c ∧ k j = x := by
  unfold zKy
  rw [Bool.and_eq_true, decide_eq_true_iff]
  constructor
  · rintro ⟨h1, h2⟩
    obtain ⟨i, hi, e1, e2⟩ := zx_bgr h h1
    obtain ⟨z, hz, e3⟩ := h.2.2.2.2.2.1 i hi
    exact ⟨z, hz, by omega⟩
  · rintro ⟨j, hj, rfl⟩
    obtain ⟨i, hi, e1, e2, e3⟩ := zx_key h hj
    rw [e2, e3]
    exact ⟨zx_bg h hi, zInv_run h hi⟩
theorem zx_kct (h : zInv F c p s k t) {m r : Nat} (hr : r ≤ c) (h1 : ∀ j, j < r → k j < m) (h2 : ∀ j, r ≤ j → j < c → m ≤ k j) : zCt (zKy F) m = r := zCt_enum h.2.2.2.1 m (fun x _ => zx_ky h x) r hr h1 h2
theorem zx_kth (h : zInv F c p s k t) {j : Nat} (hj : j < c) : zCt (zKy F) (k j) = j := zx_kct h (by omega) (fun i hi => h.2.2.2.1 i j hi hj) (fun i h1 h2 => by
  rcases Nat.eq_or_lt_of_le h1 with q | q
  · rw [q]; exact Nat.le_refl _
  · exact Nat.le_of_lt (h.2.2.2.1 j i q h2))
theorem zx_by (h : zInv F c p s k t) {j : Nat} (hj : j < c) : zsBySize F ((j : Nat) : Int) ((k j % 256 : Nat) : Int) := Or.inl ⟨k j, (zx_ky h _).mpr ⟨j, hj, rfl⟩, by rw [zx_kth h hj], rfl⟩
theorem zx_byno (h : zInv F c p s k t) {i : Int} (hi : i < 0 ∨ (c : Int) ≤ i) : zsBySize F i (-6) := by
  refine Or.inr ⟨fun x hx => ?_, rfl⟩
  obtain ⟨j, hj, e⟩ := (zx_ky h x).mp hx
  rw [← e, zx_kth h hj]
  omega
theorem zx_next (h : zInv F c p s k t) {x i : Nat} (hx : x < 256) (hi : i < c) (h1 : ∀ j, j < i → p j < x) (h2 : ∀ j, i ≤ j → j < c → x ≤ p j) : zsNext F ((x : Nat) : Int) ((p i : Nat) : Int) := by
  refine Or.inr ⟨x, rfl, hx, Or.inr ⟨p i, h2 i (Nat.le_refl _) hi, zx_bg h hi, fun z g1 g2 => ?_, rfl⟩⟩
  cases hz : zBg F z with
  | false => rfl
  | true =>
    obtain ⟨j, hj, e⟩ := (zInv_bg h z).mp hz
    rcases Nat.lt_trichotomy j i with q | q | q
    · have := h1 j q; omega
    · subst q; omega
    · have := zInv_pm h i j q hj; omega
theorem zx_nextno (h : zInv F c p s k t) {x : Nat} (hx : x < 256) (h1 : ∀ j, j < c → p j < x) : zsNext F ((x : Nat) : Int) (-6) := by
  refine Or.inr ⟨x, rfl, hx, Or.inl ⟨fun y hy => ?_, rfl⟩⟩
  cases hz : zBg F y with
  | false => rfl
  | true =>
    obtain ⟨j, hj, e⟩ := (zInv_bg h y).mp hz
    have := h1 j hj
    omega
theorem zx_run_le (h : zInv F c p s k t) {m : Nat} (hm : ∀ i, i < c → s i ≤ m) (b : Nat) : zRun F b ≤ m := by
  rcases Nat.eq_zero_or_pos (zRun F b) with q | q
  · omega
  · have hb : F b = true := by have := zRun_in (F := F) (b := b) (i := 0) q; exact this
    obtain ⟨i, hi, e1, e2⟩ := (h.2.2.1 b).mp hb
    have a := hm i hi
    rcases Nat.lt_or_ge (p i + s i) (b + zRun F b) with w | w
    · have z := zRun_in (F := F) (b := b) (i := p i + s i - b) (by omega)
      rw [show b + (p i + s i - b) = p i + s i by omega, zInv_end h hi] at z
      cases z
    · omega
theorem zx_large (h : zInv F c p s k t) (hc : 0 < c) : zsLargest F ((k (c - 1) / 256 : Nat) : Int) := by
  refine ⟨k (c - 1) / 256, rfl, zx_run_le h (fun i hi => ?_), ?_⟩
  · obtain ⟨z, hz, e3⟩ := h.2.2.2.2.2.1 i hi
    have a := zInv_p h i hi
    rcases Nat.eq_or_lt_of_le (show z ≤ c - 1 by omega) with w | w
    · rw [← w]; omega
    · have := h.2.2.2.1 z (c - 1) w (by omega); omega
  · obtain ⟨i, hi, e1, e2, e3⟩ := zx_key h (show c - 1 < c by omega)
    exact Or.inr ⟨p i, by rw [zInv_run h hi, e3]⟩
theorem zx_large0 (h : zInv F 0 p s k t) : zsLargest F 0 := ⟨0, rfl, zx_run_le h (fun i hi => absurd hi (Nat.not_lt_zero _)), Or.inl rfl⟩
-- counting by two lists of the same places
theorem zCt_countP (P : Nat → Bool) : ∀ n, zCt P n = (List.range n).countP P := by
  intro n
  induction n with
  | zero => rfl
  | succ n ih =>
    rw [List.range_succ, List.countP_append, ← ih]
    show zCt P n + _ = _
    simp [List.countP_cons]
theorem zx_atl (h : zInv F c p s k t) {j r : Nat} (hr : r ≤ c) (h1 : ∀ i, i < r → k i < j * 256) (h2 : ∀ i, r ≤ i → i < c → j * 256 ≤ k i) : zCt (zAl F (j : Int)) 256 = c - r := by
  have nd : ∀ (f : Nat → Nat), (∀ a b, a < c → b < c → f a = f b → a = b) → ((List.range c).map f).Nodup := by
    intro f hf
    rw [List.nodup_iff_pairwise_ne, List.pairwise_map]
    refine List.Pairwise.imp_of_mem (R := fun a b => a < b) ?_ List.pairwise_lt_range
    intro a b ha hb hab e
    have := hf a b (List.mem_range.mp ha) (List.mem_range.mp hb) e
    omega
  have inj1 : ∀ a b, a < c → b < c → s a * 256 + p a = s b * 256 + p b → a = b := by
    intro a b ha hb e
    have e1 := zInv_p h a ha
    have e2 := zInv_p h b hb
    exact zInv_inj h ha hb (by omega)
  have inj2 : ∀ a b, a < c → b < c → k a = k b → a = b := by
    intro a b ha hb e
    rcases Nat.lt_trichotomy a b with q | q | q
    · have := h.2.2.2.1 a b q hb; omega
    · exact q
    · have := h.2.2.2.1 b a q ha; omega
  have pm : ((List.range c).map (fun i => s i * 256 + p i)).Perm ((List.range c).map k) := by
    refine (List.perm_ext_iff_of_nodup (nd _ inj1) (nd _ inj2)).mpr ?_
    intro x
    simp only [List.mem_map, List.mem_range]
    constructor
    · rintro ⟨i, hi, rfl⟩
      obtain ⟨z, hz, e⟩ := h.2.2.2.2.2.1 i hi
      exact ⟨z, hz, e⟩
    · rintro ⟨z, hz, rfl⟩
      obtain ⟨i, hi, e⟩ := h.2.2.2.2.1 z hz
      exact ⟨i, hi, e.symm⟩
  have cp := pm.countP_eq (fun x => decide (j * 256 ≤ x))
  rw [List.countP_map, List.countP_map, ← zCt_countP, ← zCt_countP] at cp
  have c2 : zCt ((fun x => decide (j * 256 ≤ x)) ∘ k) c = c - r := by
    have key : ∀ m, m ≤ c → zCt ((fun x => decide (j * 256 ≤ x)) ∘ k) m = m - r := by
      intro m
      induction m with
      | zero => intro _; show 0 = 0 - r; omega
      | succ m ih =>
        intro hm
        rcases Nat.lt_or_ge m r with q | q
        · rw [zCt_f (by simp only [Function.comp, decide_eq_false_iff_not]; have := h1 m q; omega), ih (by omega)]
          omega
        · rw [zCt_t (by simp only [Function.comp, decide_eq_true_iff]; exact h2 m q (by omega)), ih (by omega)]
          omega
    exact key c (Nat.le_refl _)
  rw [c2] at cp
  rw [← cp]
  -- the places: those of P among p 0 .. p (c - 1)
  have gen : ∀ m, (∀ x, x ≤ c → (∀ i, i < x → p i < m) → (∀ i, x ≤ i → i < c → m ≤ p i) → zCt (zAl F (j : Int)) m = zCt ((fun x => decide (j * 256 ≤ x)) ∘ fun i => s i * 256 + p i) x) := by
    intro m
    induction m with
    | zero =>
      intro x hx g1 g2
      cases x with
      | zero => rfl
      | succ x => exact absurd (g1 0 (by omega)) (Nat.not_lt_zero _)
    | succ m ih =>
      intro x hx g1 g2
      by_cases hm : ∃ i, i < c ∧ p i = m
      · obtain ⟨i, hi, e⟩ := hm
        have hix : x = i + 1 := by
          rcases Nat.lt_trichotomy x (i + 1) with q | q | q
          · have := g2 i (by omega) hi; omega
          · exact q
          · have a := g1 (i + 1) q
            have b := zInv_pm h i (i + 1) (by omega) (by omega)
            omega
        subst hix
        have e2 := ih i (by omega) (fun y hy => by have := zInv_pm h y i hy hi; omega) (fun y hy hyc => by
          rcases Nat.eq_or_lt_of_le hy with q | q
          · rw [← q]; omega
          · have := zInv_pm h i y q hyc; omega)
        have hbg := zx_bg h hi
        have hrn := zInv_run h hi
        have hp := zInv_p h i hi
        rw [e] at hbg hrn
        by_cases hj : j ≤ s i
        · rw [zCt_t (by unfold zAl; rw [hbg, hrn]; simp; omega), zCt_t (by simp only [Function.comp, decide_eq_true_iff]; omega), e2]
        · rw [zCt_f (by unfold zAl; rw [hbg, hrn]; simp; omega), zCt_f (by simp only [Function.comp, decide_eq_false_iff_not]; omega), e2]
      · have hne : zBg F m = false := by
          cases hz : zBg F m with
          | false => rfl
          | true => exact absurd ((zInv_bg h m).mp hz) hm
        rw [zCt_f (by unfold zAl; rw [hne]; rfl)]
        refine ih x hx (fun i hi => ?_) (fun i h3 h4 => ?_)
        · have a := g1 i hi
          have b : p i ≠ m := fun e => hm ⟨i, by omega, e⟩
          omega
        · have a := g2 i h3 h4
          omega
  exact gen 256 c (Nat.le_refl _) (fun i hi => by have := zInv_p h i hi; omega) (fun i h3 h4 => by omega)
theorem zx_atl_big (h : zInv F c p s k t) {n : Int} (hn : 256 < n) : zCt (zAl F n) 256 = 0 := by
  refine zCt_zero 256 (fun x _ => ?_)
  unfold zAl
  have := zRun_256 F x
  rw [decide_eq_false (by omega)]
  simp
theorem zx_atl_low (h : zInv F c p s k t) {n : Int} (hn : n < 1) : zCt (zAl F n) 256 = c := by
  rw [← zx_count h]
  refine zCt_congr 256 (fun x _ => ?_)
  unfold zAl
  rw [decide_eq_true (by omega)]
  simp
end ZX
end
section
set_option maxHeartbeats 4000000 in
set_option maxRecDepth 100000 in
theorem metX0_extentOf (l : Launch) (G : va_G) {h0 a1 a2 a3 : Nat} {dA : ClassId} {F : Nat → Bool} {cn tn : Nat} {pp ss kk : Nat → Nat} (hI : zInv F cn pp ss kk tn) {b : Nat} (hb0 : b ≤ 256) : zRO l yX0_extentOf cX0_extentOf 3 (some .int) ({ frames := 1, cells := 0, slots := 0, locals := 24 } : Room) G (wX h0 a1 a2 a3 dA cn pp ss kk tn) [(dA, .int)] [.ref h0, .int (zI ((b : Nat) : Int))] (fun r => (∃ i : Nat, i < cn ∧ r = zI (i : Int) ∧ pp i ≤ b ∧ b < pp i + ss i) ∨ (r = zI (-1) ∧ F b = false)) := by
  refine zro_enter (by decide) (Nat.le_of_ble_eq_true rfl) ?_
  intro p e s m below meth c hx hb hr hml hown hlocks hts hP hK ls hl
  have hown : s.vm.findClass RX0 = some m.cls := hown
  have hl : lv_has ls 3 [(0, .ref h0), (1, .int (zI ((b : Nat) : Int)))] := hl
  have hc128 := zInv_c hI
  have ht256 := zInv_t hI
  refine lv_aload_n hx hb dX0_extentOf_0 rfl (lv_at hl 0 rfl) ?_
  refine lv_iload_n hx hb dX0_extentOf_1 rfl (lv_at hl 1 rfl) ?_
  refine zr_iconstN 1 hx hb dX0_extentOf_2 rfl ?_
  refine zr_iaddN hx hb dX0_extentOf_3 ?_
  refine zc_ro (n := 1) (As := [.int (zI ((b + 1 : Nat) : Int))]) (rest := []) ⟨hx, hb, hml, hown, hts⟩ (metX0_firstFrom l G hI (b := b + 1) (by omega)) (lw_V q33 q35 qs1 q15 q36) ⟨rfl, rfl⟩ (by decide +kernel) ⟨Nat.le_of_ble_eq_true rfl, Nat.le_of_ble_eq_true rfl⟩ hK hP 0 0 rfl rfl rfl rfl rfl hl (Nat.le_of_ble_eq_true rfl) ⟨Nat.zero_le _, Nat.zero_le _⟩ dX0_extentOf_4 (fun r4 h4 => ?_)
  obtain ⟨i, hi1, rfl, hi2, hi3⟩ := h4
  refine zr_iconstN 1 hx hb dX0_extentOf_7 rfl ?_
  refine zr_isub hx hb dX0_extentOf_8 ?_
  refine lv_istore_n (lv' := [(2, .int (zI (((i : Nat) : Int) - ((1 : Nat) : Int)))), (0, .ref h0), (1, .int (zI ((b : Nat) : Int)))]) hx hb dX0_extentOf_9 rfl hl (by decide) rfl (fun ls hl => ?_)
  refine lv_iload_n hx hb dX0_extentOf_10 rfl (lv_at hl 0 rfl) ?_
  refine zr_if_lt (tgt := 35) hx hb dX0_extentOf_11 (by decide) (by omega) (fun c11 => ?_) (fun c11 => ?_)
  · refine zr_iconst hx hb dX0_extentOf_35 ?_
    exact zret_roi (v := zI (-1)) hx hb hr hlocks dX0_extentOf_36 (Or.inr ⟨rfl, zx_ext0 hI (fun j _ hj => hi3 j (by omega) hj)⟩)
  · obtain ⟨w, rfl⟩ : ∃ w, i = w + 1 := ⟨i - 1, by omega⟩
    have e9 : ((((w + 1) : Nat) : Int) - ((1 : Nat) : Int)) = ((w : Nat) : Int) := by omega
    rw [e9] at hl
    have hps := hI.1 w (by omega)
    refine lv_iload_n hx hb dX0_extentOf_14 rfl (lv_at hl 2 rfl) ?_
    refine lv_aload_n hx hb dX0_extentOf_15 rfl (lv_at hl 1 rfl) ?_
    refine va_get (D := G) (ci := 0) (v := .ref a1) (C := RX0) (T := TX0) (N := 5) hx hb hts in_X0 hown hK hP 0 rfl rfl 1 (by decide) (hts _ q42) (fun _ h9 => h9) rfl dX0_extentOf_16 ?_
    refine lv_iload_n hx hb dX0_extentOf_19 rfl (lv_at hl 0 rfl) ?_
    refine zr_iald hx hb hK hP 1 0 rfl rfl w rfl (by omega) (by decide) dX0_extentOf_20 ?_
    refine lv_aload_n hx hb dX0_extentOf_21 rfl (lv_at hl 1 rfl) ?_
    refine va_get (D := G) (ci := 0) (v := .ref a2) (C := RX0) (T := TX0) (N := 5) hx hb hts in_X0 hown hK hP 0 rfl rfl 2 (by decide) (hts _ q43) (fun _ h9 => h9) rfl dX0_extentOf_22 ?_
    refine lv_iload_n hx hb dX0_extentOf_25 rfl (lv_at hl 0 rfl) ?_
    refine zr_iald hx hb hK hP 2 0 rfl rfl w rfl (by omega) (by decide) dX0_extentOf_26 ?_
    refine zr_iaddN hx hb dX0_extentOf_27 ?_
    refine zr_icmp_ge (tgt := 35) hx hb dX0_extentOf_28 (by decide) (by omega) (fun c28 => ?_) (fun c28 => ?_)
    · refine zr_iconst hx hb dX0_extentOf_35 ?_
      exact zret_roi (v := zI (-1)) hx hb hr hlocks dX0_extentOf_36 (Or.inr ⟨rfl, zx_ext hI hi1 hi2 hi3 (by omega)⟩)
    · refine lv_iload_n hx hb dX0_extentOf_31 rfl (lv_at hl 0 rfl) ?_
      refine lv_goto (tgt := 36) hx hb dX0_extentOf_32 (by decide) ?_
      exact zret_roi (v := zI ((w : Nat) : Int)) hx hb hr hlocks dX0_extentOf_36 (Or.inl ⟨w, by omega, rfl, by have := hi2 w (by omega); omega, by omega⟩)
set_option maxHeartbeats 4000000 in
set_option maxRecDepth 100000 in
theorem metX0_largestExtent (l : Launch) (G : va_G) {h0 a1 a2 a3 : Nat} {dA : ClassId} {F : Nat → Bool} {cn tn : Nat} {pp ss kk : Nat → Nat} (hI : zInv F cn pp ss kk tn) (hcn : 0 < cn) : zRO l yX0_largestExtent cX0_largestExtent 3 (some .int) ({ frames := 1, cells := 0, slots := 0, locals := 24 } : Room) G (wX h0 a1 a2 a3 dA cn pp ss kk tn) [(dA, .int)] [.ref h0] (fun r => ∃ i : Nat, i < cn ∧ r = zI (i : Int) ∧ zLg F (pp i)) := by
  refine zro_enter (by decide) (Nat.le_of_ble_eq_true rfl) ?_
  intro p e s m below meth c hx hb hr hml hown hlocks hts hP hK ls hl
  have hown : s.vm.findClass RX0 = some m.cls := hown
  have hl : lv_has ls 3 [(0, .ref h0)] := hl
  have hc128 := zInv_c hI
  have ht256 := zInv_t hI
  have hkl := zInv_k hI (cn - 1) (by omega)
  refine lv_aload_n hx hb dX0_largestExtent_0 rfl (lv_at hl 0 rfl) ?_
  refine va_get (D := G) (ci := 0) (v := .ref a3) (C := RX0) (T := TX0) (N := 5) hx hb hts in_X0 hown hK hP 0 rfl rfl 3 (by decide) (hts _ q44) (fun _ h9 => h9) rfl dX0_largestExtent_1 ?_
  refine lv_aload_n hx hb dX0_largestExtent_4 rfl (lv_at hl 0 rfl) ?_
  refine va_get (D := G) (ci := 0) (v := .int (zI ((cn : Nat) : Int))) (C := RX0) (T := TX0) (N := 5) hx hb hts in_X0 hown hK hP 0 rfl rfl 0 (by decide) (hts _ q41) (fun _ h9 => h9) rfl dX0_largestExtent_5 ?_
  refine zr_iconstN 1 hx hb dX0_largestExtent_8 rfl ?_
  refine zr_isubN hx hb (by omega) dX0_largestExtent_9 ?_
  refine zr_iald hx hb hK hP 3 0 rfl rfl (cn - 1) rfl (by omega) (by decide) dX0_largestExtent_10 ?_
  refine zr_sipush ((256 : Nat) : Int) hx hb dX0_largestExtent_11 (by decide) ?_
  refine zr_idivN hx hb (by omega) (by decide) (by decide) dX0_largestExtent_14 ?_
  refine lv_istore_n (lv' := [(1, .int (zI (((kk (cn - 1)) / 256 : Nat) : Int))), (0, .ref h0)]) hx hb dX0_largestExtent_15 rfl hl (by decide) rfl (fun ls hl => ?_)
  refine lv_aload_n hx hb dX0_largestExtent_16 rfl (lv_at hl 1 rfl) ?_
  refine lv_iload_n hx hb dX0_largestExtent_17 rfl (lv_at hl 0 rfl) ?_
  refine zr_sipush ((256 : Nat) : Int) hx hb dX0_largestExtent_18 (by decide) ?_
  refine zr_imulN hx hb dX0_largestExtent_21 ?_
  refine zc_ro (n := 1) (As := [.int (zI ((((kk (cn - 1)) / 256) * 256 : Nat) : Int))]) (rest := []) ⟨hx, hb, hml, hown, hts⟩ (metX0_keyFrom l G hI (b := kk (cn - 1) / 256 * 256) (by omega)) (lw_V q37 q39 qs2 q15 q40) ⟨rfl, rfl⟩ (by decide +kernel) ⟨Nat.le_of_ble_eq_true rfl, Nat.le_of_ble_eq_true rfl⟩ hK hP 0 0 rfl rfl rfl rfl rfl hl (Nat.le_of_ble_eq_true rfl) ⟨Nat.zero_le _, Nat.zero_le _⟩ dX0_largestExtent_22 (fun r22 h22 => ?_)
  obtain ⟨r, hr1, rfl, hr2, hr3⟩ := h22
  refine lv_istore_n (lv' := [(2, .int (zI ((r : Nat) : Int))), (1, .int (zI (((kk (cn - 1)) / 256 : Nat) : Int))), (0, .ref h0)]) hx hb dX0_largestExtent_25 rfl hl (by decide) rfl (fun ls hl => ?_)
  have hrc := zx_lgr hI hcn hr1 hr2
  obtain ⟨i0, hi0, e1, e2, e3⟩ := zx_key hI hrc
  have hp9 := zInv_p hI i0 hi0
  have hk9 := zInv_k hI r hrc
  refine lv_aload_n hx hb dX0_largestExtent_26 rfl (lv_at hl 2 rfl) ?_
  refine lv_aload_n hx hb dX0_largestExtent_27 rfl (lv_at hl 2 rfl) ?_
  refine va_get (D := G) (ci := 0) (v := .ref a3) (C := RX0) (T := TX0) (N := 5) hx hb hts in_X0 hown hK hP 0 rfl rfl 3 (by decide) (hts _ q44) (fun _ h9 => h9) rfl dX0_largestExtent_28 ?_
  refine lv_iload_n hx hb dX0_largestExtent_31 rfl (lv_at hl 0 rfl) ?_
  refine zr_iald hx hb hK hP 3 0 rfl rfl r rfl (by omega) (by decide) dX0_largestExtent_32 ?_
  refine zr_sipush ((256 : Nat) : Int) hx hb dX0_largestExtent_33 (by decide) ?_
  refine zr_iremN hx hb (by omega) (by decide) (by decide) dX0_largestExtent_36 ?_
  refine zr_top (y := ((pp i0 : Nat) : Int)) (congrArg (fun z : Nat => (z : Int)) e2) ?_
  refine zc_ro (n := 1) (As := [.int (zI ((pp i0 : Nat) : Int))]) (rest := []) ⟨hx, hb, hml, hown, hts⟩ (metX0_firstFrom l G hI (b := pp i0) (by omega)) (lw_V q33 q35 qs1 q15 q36) ⟨rfl, rfl⟩ (by decide +kernel) ⟨Nat.le_of_ble_eq_true rfl, Nat.le_of_ble_eq_true rfl⟩ hK hP 0 0 rfl rfl rfl rfl rfl hl (Nat.le_of_ble_eq_true rfl) ⟨Nat.zero_le _, Nat.zero_le _⟩ dX0_largestExtent_37 (fun r37 h37 => ?_)
  obtain ⟨i, hi1, rfl, hi2, hi3⟩ := h37
  have e4 : i0 = i := (zx_first hI hi0 hi1 hi2 hi3).symm
  subst e4
  exact zret_roi (v := zI ((i0 : Nat) : Int)) hx hb hr hlocks dX0_largestExtent_40 ⟨i0, hi0, rfl, zx_lg hI hcn hrc hr2 hr3 hi0 e1⟩
set_option maxHeartbeats 4000000 in
set_option maxRecDepth 100000 in
theorem metX0_free (l : Launch) (G : va_G) {h0 a1 a2 a3 : Nat} {dA : ClassId} {F : Nat → Bool} {cn tn : Nat} {pp ss kk : Nat → Nat} (hI : zInv F cn pp ss kk tn) {b : Int} (hb0 : zIn b) : zRO l yX0_free cX0_free 3 (some .boolean) ({ frames := 2, cells := 0, slots := 0, locals := 46 } : Room) G (wX h0 a1 a2 a3 dA cn pp ss kk tn) [(dA, .int)] [.ref h0, .int (zI b)] (fun r => zB (zFr F b) r) := by
  refine zro_enter (by decide) (Nat.le_of_ble_eq_true rfl) ?_
  intro p e s m below meth c hx hb hr hml hown hlocks hts hP hK ls hl
  have hown : s.vm.findClass RX0 = some m.cls := hown
  have hl : lv_has ls 3 [(0, .ref h0), (1, .int (zI b))] := hl
  have hc128 := zInv_c hI
  have ht256 := zInv_t hI
  refine lv_iload_n hx hb dX0_free_0 rfl (lv_at hl 1 rfl) ?_
  refine zc_st (n := 1) (As := [.int (zI b)]) (rest := []) ⟨hx, hb, hml, hown, hts⟩ (metX0_badBlock l G hb0) (lw_S q77 q78 q15 q79) ⟨rfl, rfl⟩ (by decide +kernel) ⟨Nat.le_of_ble_eq_true rfl, Nat.le_of_ble_eq_true rfl⟩ hK rfl rfl hl (Nat.le_of_ble_eq_true rfl) ⟨Nat.zero_le _, Nat.zero_le _⟩ dX0_free_1 (fun r1 h1 => ?_)
  rcases h1 with ⟨er1, h1⟩ | ⟨er1, h1⟩
  · subst er1
    refine zr_if_eq (tgt := 9) hx hb dX0_free_4 (by decide) (by omega) (fun c4 => by exfalso; omega) (fun c4 => ?_)
    refine zr_iconstN 0 hx hb dX0_free_7 rfl ?_
    exact zret_roz (v := zI ((0 : Nat) : Int)) hx hb hr hlocks dX0_free_8 rfl (Or.inr ⟨rfl, fun hz => by have z1 := hz.1; have z2 := hz.2.1; omega⟩)
  · subst er1
    refine zr_if_eq (tgt := 9) hx hb dX0_free_4 (by decide) (by omega) (fun c4 => ?_) (fun c4 => by exfalso; omega)
    obtain ⟨x, rfl⟩ := Int.eq_ofNat_of_zero_le (show 0 ≤ b by omega)
    refine lv_aload_n hx hb dX0_free_9 rfl (lv_at hl 0 rfl) ?_
    refine lv_iload_n hx hb dX0_free_10 rfl (lv_at hl 1 rfl) ?_
    refine zc_ro (n := 1) (As := [.int (zI ((x : Nat) : Int))]) (rest := []) ⟨hx, hb, hml, hown, hts⟩ (metX0_extentOf l G hI (b := x) (by omega)) (lw_V q87 q89 qs5 q15 q90) ⟨rfl, rfl⟩ (by decide +kernel) ⟨Nat.le_of_ble_eq_true rfl, Nat.le_of_ble_eq_true rfl⟩ hK hP 0 0 rfl rfl rfl rfl rfl hl (Nat.le_of_ble_eq_true rfl) ⟨Nat.zero_le _, Nat.zero_le _⟩ dX0_free_11 (fun r11 h11 => ?_)
    rcases h11 with ⟨i, hi1, rfl, hi2, hi3⟩ | ⟨rfl, hi1⟩
    · refine lv_istore_n (lv' := [(2, .int (zI ((i : Nat) : Int))), (0, .ref h0), (1, .int (zI ((x : Nat) : Int)))]) hx hb dX0_free_14 rfl hl (by decide) rfl (fun ls hl => ?_)
      refine lv_iload_n hx hb dX0_free_15 rfl (lv_at hl 0 rfl) ?_
      refine zr_if_lt (tgt := 23) hx hb dX0_free_16 (by decide) (by omega) (fun c16 => by exfalso; omega) (fun c16 => ?_)
      refine zr_iconstN 1 hx hb dX0_free_19 rfl ?_
      refine lv_goto (tgt := 24) hx hb dX0_free_20 (by decide) ?_
      exact zret_roz (v := zI ((1 : Nat) : Int)) hx hb hr hlocks dX0_free_24 rfl (Or.inl ⟨rfl, by omega, by omega, zInv_in hI hi1 hi2 hi3⟩)
    · refine lv_istore_n (lv' := [(2, .int (zI (-1))), (0, .ref h0), (1, .int (zI ((x : Nat) : Int)))]) hx hb dX0_free_14 rfl hl (by decide) rfl (fun ls hl => ?_)
      refine lv_iload_n hx hb dX0_free_15 rfl (lv_at hl 0 rfl) ?_
      refine zr_if_lt (tgt := 23) hx hb dX0_free_16 (by decide) (by omega) (fun c16 => ?_) (fun c16 => by exfalso; omega)
      refine zr_iconstN 0 hx hb dX0_free_23 rfl ?_
      exact zret_roz (v := zI ((0 : Nat) : Int)) hx hb hr hlocks dX0_free_24 rfl (Or.inr ⟨rfl, fun hz => by have z1 := hz.2.2; rw [Int.toNat_natCast, hi1] at z1; cases z1⟩)
set_option maxHeartbeats 4000000 in
set_option maxRecDepth 100000 in
theorem metX0_freeBlocks (l : Launch) (G : va_G) {h0 a1 a2 a3 : Nat} {dA : ClassId} {F : Nat → Bool} {cn tn : Nat} {pp ss kk : Nat → Nat} (hI : zInv F cn pp ss kk tn) : zRO l yX0_freeBlocks cX0_freeBlocks 1 (some .int) ({ frames := 0, cells := 0, slots := 0, locals := 0 } : Room) G (wX h0 a1 a2 a3 dA cn pp ss kk tn) [(dA, .int)] [.ref h0] (fun r => r = zI ((zCt F 256 : Nat) : Int)) := by
  refine zro_enter (by decide) (Nat.le_of_ble_eq_true rfl) ?_
  intro p e s m below meth c hx hb hr hml hown hlocks hts hP hK ls hl
  have hown : s.vm.findClass RX0 = some m.cls := hown
  have hl : lv_has ls 1 [(0, .ref h0)] := hl
  have hc128 := zInv_c hI
  have ht256 := zInv_t hI
  refine lv_aload_n hx hb dX0_freeBlocks_0 rfl (lv_at hl 0 rfl) ?_
  refine va_get (D := G) (ci := 0) (v := .int (zI ((tn : Nat) : Int))) (C := RX0) (T := TX0) (N := 5) hx hb hts in_X0 hown hK hP 0 rfl rfl 4 (by decide) (hts _ q45) (fun _ h9 => h9) rfl dX0_freeBlocks_1 ?_
  exact zret_roi (v := zI ((tn : Nat) : Int)) hx hb hr hlocks dX0_freeBlocks_4 (congrArg (fun z : Nat => zI (z : Int)) hI.2.2.2.2.2.2)
set_option maxHeartbeats 4000000 in
set_option maxRecDepth 100000 in
theorem metX0_extents (l : Launch) (G : va_G) {h0 a1 a2 a3 : Nat} {dA : ClassId} {F : Nat → Bool} {cn tn : Nat} {pp ss kk : Nat → Nat} (hI : zInv F cn pp ss kk tn) : zRO l yX0_extents cX0_extents 1 (some .int) ({ frames := 0, cells := 0, slots := 0, locals := 0 } : Room) G (wX h0 a1 a2 a3 dA cn pp ss kk tn) [(dA, .int)] [.ref h0] (fun r => r = zI ((zCt (zBg F) 256 : Nat) : Int)) := by
  refine zro_enter (by decide) (Nat.le_of_ble_eq_true rfl) ?_
  intro p e s m below meth c hx hb hr hml hown hlocks hts hP hK ls hl
  have hown : s.vm.findClass RX0 = some m.cls := hown
  have hl : lv_has ls 1 [(0, .ref h0)] := hl
  have hc128 := zInv_c hI
  have ht256 := zInv_t hI
  refine lv_aload_n hx hb dX0_extents_0 rfl (lv_at hl 0 rfl) ?_
  refine va_get (D := G) (ci := 0) (v := .int (zI ((cn : Nat) : Int))) (C := RX0) (T := TX0) (N := 5) hx hb hts in_X0 hown hK hP 0 rfl rfl 0 (by decide) (hts _ q41) (fun _ h9 => h9) rfl dX0_extents_1 ?_
  exact zret_roi (v := zI ((cn : Nat) : Int)) hx hb hr hlocks dX0_extents_4 (congrArg (fun z : Nat => zI (z : Int)) (zx_count hI).symm)
set_option maxHeartbeats 4000000 in
set_option maxRecDepth 100000 in
theorem metX0_largest (l : Launch) (G : va_G) {h0 a1 a2 a3 : Nat} {dA : ClassId} {F : Nat → Bool} {cn tn : Nat} {pp ss kk : Nat → Nat} (hI : zInv F cn pp ss kk tn) : zRO l yX0_largest cX0_largest 1 (some .int) ({ frames := 0, cells := 0, slots := 0, locals := 0 } : Room) G (wX h0 a1 a2 a3 dA cn pp ss kk tn) [(dA, .int)] [.ref h0] (fun r => ∃ q : Int, r = zI q ∧ zsLargest F q) := by
  refine zro_enter (by decide) (Nat.le_of_ble_eq_true rfl) ?_
  intro p e s m below meth c hx hb hr hml hown hlocks hts hP hK ls hl
  have hown : s.vm.findClass RX0 = some m.cls := hown
  have hl : lv_has ls 1 [(0, .ref h0)] := hl
  have hc128 := zInv_c hI
  have ht256 := zInv_t hI
  refine lv_aload_n hx hb dX0_largest_0 rfl (lv_at hl 0 rfl) ?_
  refine va_get (D := G) (ci := 0) (v := .int (zI ((cn : Nat) : Int))) (C := RX0) (T := TX0) (N := 5) hx hb hts in_X0 hown hK hP 0 rfl rfl 0 (by decide) (hts _ q41) (fun _ h9 => h9) rfl dX0_largest_1 ?_
  refine zr_if_ne (tgt := 11) hx hb dX0_largest_4 (by decide) (by omega) (fun c4 => ?_) (fun c4 => ?_)
  · have hkl := zInv_k hI (cn - 1) (by omega)
    refine lv_aload_n hx hb dX0_largest_11 rfl (lv_at hl 0 rfl) ?_
    refine va_get (D := G) (ci := 0) (v := .ref a3) (C := RX0) (T := TX0) (N := 5) hx hb hts in_X0 hown hK hP 0 rfl rfl 3 (by decide) (hts _ q44) (fun _ h9 => h9) rfl dX0_largest_12 ?_
    refine lv_aload_n hx hb dX0_largest_15 rfl (lv_at hl 0 rfl) ?_
    refine va_get (D := G) (ci := 0) (v := .int (zI ((cn : Nat) : Int))) (C := RX0) (T := TX0) (N := 5) hx hb hts in_X0 hown hK hP 0 rfl rfl 0 (by decide) (hts _ q41) (fun _ h9 => h9) rfl dX0_largest_16 ?_
    refine zr_iconstN 1 hx hb dX0_largest_19 rfl ?_
    refine zr_isubN hx hb (by omega) dX0_largest_20 ?_
    refine zr_iald hx hb hK hP 3 0 rfl rfl (cn - 1) rfl (by omega) (by decide) dX0_largest_21 ?_
    refine zr_sipush ((256 : Nat) : Int) hx hb dX0_largest_22 (by decide) ?_
    refine zr_idivN hx hb (by omega) (by decide) (by decide) dX0_largest_25 ?_
    exact zret_roi (v := zI (((kk (cn - 1)) / 256 : Nat) : Int)) hx hb hr hlocks dX0_largest_26 ⟨_, rfl, zx_large hI (by omega)⟩
  · refine zr_iconstN 0 hx hb dX0_largest_7 rfl ?_
    refine lv_goto (tgt := 26) hx hb dX0_largest_8 (by decide) ?_
    exact zret_roi (v := zI ((0 : Nat) : Int)) hx hb hr hlocks dX0_largest_26 (by have e9 : cn = 0 := (by omega); subst e9; exact ⟨0, rfl, zx_large0 hI⟩)
set_option maxHeartbeats 4000000 in
set_option maxRecDepth 100000 in
theorem metX0_next (l : Launch) (G : va_G) {h0 a1 a2 a3 : Nat} {dA : ClassId} {F : Nat → Bool} {cn tn : Nat} {pp ss kk : Nat → Nat} (hI : zInv F cn pp ss kk tn) {b : Int} (hb0 : zIn b) : zRO l yX0_next cX0_next 3 (some .int) ({ frames := 1, cells := 0, slots := 0, locals := 24 } : Room) G (wX h0 a1 a2 a3 dA cn pp ss kk tn) [(dA, .int)] [.ref h0, .int (zI b)] (fun r => ∃ q : Int, r = zI q ∧ zsNext F b q) := by
  refine zro_enter (by decide) (Nat.le_of_ble_eq_true rfl) ?_
  intro p e s m below meth c hx hb hr hml hown hlocks hts hP hK ls hl
  have hown : s.vm.findClass RX0 = some m.cls := hown
  have hl : lv_has ls 3 [(0, .ref h0), (1, .int (zI b))] := hl
  have hc128 := zInv_c hI
  have ht256 := zInv_t hI
  refine lv_iload_n hx hb dX0_next_0 rfl (lv_at hl 1 rfl) ?_
  refine zc_st (n := 1) (As := [.int (zI b)]) (rest := []) ⟨hx, hb, hml, hown, hts⟩ (metX0_badBlock l G hb0) (lw_S q77 q78 q15 q79) ⟨rfl, rfl⟩ (by decide +kernel) ⟨Nat.le_of_ble_eq_true rfl, Nat.le_of_ble_eq_true rfl⟩ hK rfl rfl hl (Nat.le_of_ble_eq_true rfl) ⟨Nat.zero_le _, Nat.zero_le _⟩ dX0_next_1 (fun r1 h1 => ?_)
  rcases h1 with ⟨er1, h1⟩ | ⟨er1, h1⟩
  · subst er1
    refine zr_if_eq (tgt := 9) hx hb dX0_next_4 (by decide) (by omega) (fun c4 => by exfalso; omega) (fun c4 => ?_)
    refine zr_iconst hx hb dX0_next_7 ?_
    exact zret_roi (v := zI (-1)) hx hb hr hlocks dX0_next_8 ⟨-1, rfl, Or.inl ⟨h1, rfl⟩⟩
  · subst er1
    refine zr_if_eq (tgt := 9) hx hb dX0_next_4 (by decide) (by omega) (fun c4 => ?_) (fun c4 => by exfalso; omega)
    obtain ⟨x, rfl⟩ := Int.eq_ofNat_of_zero_le (show 0 ≤ b by omega)
    refine lv_aload_n hx hb dX0_next_9 rfl (lv_at hl 0 rfl) ?_
    refine lv_iload_n hx hb dX0_next_10 rfl (lv_at hl 1 rfl) ?_
    refine zc_ro (n := 1) (As := [.int (zI ((x : Nat) : Int))]) (rest := []) ⟨hx, hb, hml, hown, hts⟩ (metX0_firstFrom l G hI (b := x) (by omega)) (lw_V q33 q35 qs1 q15 q36) ⟨rfl, rfl⟩ (by decide +kernel) ⟨Nat.le_of_ble_eq_true rfl, Nat.le_of_ble_eq_true rfl⟩ hK hP 0 0 rfl rfl rfl rfl rfl hl (Nat.le_of_ble_eq_true rfl) ⟨Nat.zero_le _, Nat.zero_le _⟩ dX0_next_11 (fun r11 h11 => ?_)
    obtain ⟨i, hi1, rfl, hi2, hi3⟩ := h11
    refine lv_istore_n (lv' := [(2, .int (zI ((i : Nat) : Int))), (0, .ref h0), (1, .int (zI ((x : Nat) : Int)))]) hx hb dX0_next_14 rfl hl (by decide) rfl (fun ls hl => ?_)
    refine lv_iload_n hx hb dX0_next_15 rfl (lv_at hl 0 rfl) ?_
    refine lv_aload_n hx hb dX0_next_16 rfl (lv_at hl 1 rfl) ?_
    refine va_get (D := G) (ci := 0) (v := .int (zI ((cn : Nat) : Int))) (C := RX0) (T := TX0) (N := 5) hx hb hts in_X0 hown hK hP 0 rfl rfl 0 (by decide) (hts _ q41) (fun _ h9 => h9) rfl dX0_next_17 ?_
    refine zr_icmp_ne (tgt := 28) hx hb dX0_next_20 (by decide) (by omega) (fun c20 => ?_) (fun c20 => ?_)
    · refine lv_aload_n hx hb dX0_next_28 rfl (lv_at hl 1 rfl) ?_
      refine va_get (D := G) (ci := 0) (v := .ref a1) (C := RX0) (T := TX0) (N := 5) hx hb hts in_X0 hown hK hP 0 rfl rfl 1 (by decide) (hts _ q42) (fun _ h9 => h9) rfl dX0_next_29 ?_
      refine lv_iload_n hx hb dX0_next_32 rfl (lv_at hl 0 rfl) ?_
      refine zr_iald hx hb hK hP 1 0 rfl rfl i rfl (by omega) (by decide) dX0_next_33 ?_
      exact zret_roi (v := zI ((pp i : Nat) : Int)) hx hb hr hlocks dX0_next_34 ⟨_, rfl, zx_next hI (by omega) (by omega) hi2 hi3⟩
    · refine zr_bipush (-6) hx hb dX0_next_23 (by decide) ?_
      refine lv_goto (tgt := 34) hx hb dX0_next_25 (by decide) ?_
      exact zret_roi (v := zI (-6)) hx hb hr hlocks dX0_next_34 ⟨-6, rfl, zx_nextno hI (by omega) (fun j hj => hi2 j (by omega))⟩
set_option maxHeartbeats 4000000 in
set_option maxRecDepth 100000 in
theorem metX0_sizeAt (l : Launch) (G : va_G) {h0 a1 a2 a3 : Nat} {dA : ClassId} {F : Nat → Bool} {cn tn : Nat} {pp ss kk : Nat → Nat} (hI : zInv F cn pp ss kk tn) {b : Int} (hb0 : zIn b) : zRO l yX0_sizeAt cX0_sizeAt 3 (some .int) ({ frames := 2, cells := 0, slots := 0, locals := 46 } : Room) G (wX h0 a1 a2 a3 dA cn pp ss kk tn) [(dA, .int)] [.ref h0, .int (zI b)] (fun r => ∃ q : Int, r = zI q ∧ zsSizeAt F b q) := by
  refine zro_enter (by decide) (Nat.le_of_ble_eq_true rfl) ?_
  intro p e s m below meth c hx hb hr hml hown hlocks hts hP hK ls hl
  have hown : s.vm.findClass RX0 = some m.cls := hown
  have hl : lv_has ls 3 [(0, .ref h0), (1, .int (zI b))] := hl
  have hc128 := zInv_c hI
  have ht256 := zInv_t hI
  refine lv_iload_n hx hb dX0_sizeAt_0 rfl (lv_at hl 1 rfl) ?_
  refine zc_st (n := 1) (As := [.int (zI b)]) (rest := []) ⟨hx, hb, hml, hown, hts⟩ (metX0_badBlock l G hb0) (lw_S q77 q78 q15 q79) ⟨rfl, rfl⟩ (by decide +kernel) ⟨Nat.le_of_ble_eq_true rfl, Nat.le_of_ble_eq_true rfl⟩ hK rfl rfl hl (Nat.le_of_ble_eq_true rfl) ⟨Nat.zero_le _, Nat.zero_le _⟩ dX0_sizeAt_1 (fun r1 h1 => ?_)
  rcases h1 with ⟨er1, h1⟩ | ⟨er1, h1⟩
  · subst er1
    refine zr_if_eq (tgt := 9) hx hb dX0_sizeAt_4 (by decide) (by omega) (fun c4 => by exfalso; omega) (fun c4 => ?_)
    refine zr_iconst hx hb dX0_sizeAt_7 ?_
    exact zret_roi (v := zI (-1)) hx hb hr hlocks dX0_sizeAt_8 ⟨-1, rfl, Or.inl ⟨h1, rfl⟩⟩
  · subst er1
    refine zr_if_eq (tgt := 9) hx hb dX0_sizeAt_4 (by decide) (by omega) (fun c4 => ?_) (fun c4 => by exfalso; omega)
    obtain ⟨x, rfl⟩ := Int.eq_ofNat_of_zero_le (show 0 ≤ b by omega)
    refine lv_aload_n hx hb dX0_sizeAt_9 rfl (lv_at hl 0 rfl) ?_
    refine lv_iload_n hx hb dX0_sizeAt_10 rfl (lv_at hl 1 rfl) ?_
    refine zc_ro (n := 1) (As := [.int (zI ((x : Nat) : Int))]) (rest := []) ⟨hx, hb, hml, hown, hts⟩ (metX0_extentOf l G hI (b := x) (by omega)) (lw_V q87 q89 qs5 q15 q90) ⟨rfl, rfl⟩ (by decide +kernel) ⟨Nat.le_of_ble_eq_true rfl, Nat.le_of_ble_eq_true rfl⟩ hK hP 0 0 rfl rfl rfl rfl rfl hl (Nat.le_of_ble_eq_true rfl) ⟨Nat.zero_le _, Nat.zero_le _⟩ dX0_sizeAt_11 (fun r11 h11 => ?_)
    rcases h11 with ⟨i, hi1, rfl, hi2, hi3⟩ | ⟨rfl, hi1⟩
    · refine lv_istore_n (lv' := [(2, .int (zI ((i : Nat) : Int))), (0, .ref h0), (1, .int (zI ((x : Nat) : Int)))]) hx hb dX0_sizeAt_14 rfl hl (by decide) rfl (fun ls hl => ?_)
      refine lv_iload_n hx hb dX0_sizeAt_15 rfl (lv_at hl 0 rfl) ?_
      refine zr_if_ge (tgt := 23) hx hb dX0_sizeAt_16 (by decide) (by omega) (fun c16 => ?_) (fun c16 => by exfalso; omega)
      refine lv_aload_n hx hb dX0_sizeAt_23 rfl (lv_at hl 1 rfl) ?_
      refine va_get (D := G) (ci := 0) (v := .ref a2) (C := RX0) (T := TX0) (N := 5) hx hb hts in_X0 hown hK hP 0 rfl rfl 2 (by decide) (hts _ q43) (fun _ h9 => h9) rfl dX0_sizeAt_24 ?_
      refine lv_iload_n hx hb dX0_sizeAt_27 rfl (lv_at hl 0 rfl) ?_
      refine zr_iald hx hb hK hP 2 0 rfl rfl i rfl (by omega) (by decide) dX0_sizeAt_28 ?_
      exact zret_roi (v := zI ((ss i : Nat) : Int)) hx hb hr hlocks dX0_sizeAt_29 ⟨_, rfl, Or.inr ⟨x, rfl, by omega, zx_sz hI hi1 hi2 hi3⟩⟩
    · refine lv_istore_n (lv' := [(2, .int (zI (-1))), (0, .ref h0), (1, .int (zI ((x : Nat) : Int)))]) hx hb dX0_sizeAt_14 rfl hl (by decide) rfl (fun ls hl => ?_)
      refine lv_iload_n hx hb dX0_sizeAt_15 rfl (lv_at hl 0 rfl) ?_
      refine zr_if_ge (tgt := 23) hx hb dX0_sizeAt_16 (by decide) (by omega) (fun c16 => by exfalso; omega) (fun c16 => ?_)
      refine zr_iconstN 0 hx hb dX0_sizeAt_19 rfl ?_
      refine lv_goto (tgt := 29) hx hb dX0_sizeAt_20 (by decide) ?_
      exact zret_roi (v := zI ((0 : Nat) : Int)) hx hb hr hlocks dX0_sizeAt_29 ⟨0, rfl, Or.inr ⟨x, rfl, by omega, Or.inl ⟨hi1, rfl⟩⟩⟩
set_option maxHeartbeats 4000000 in
set_option maxRecDepth 100000 in
theorem metX0_bySize (l : Launch) (G : va_G) {h0 a1 a2 a3 : Nat} {dA : ClassId} {F : Nat → Bool} {cn tn : Nat} {pp ss kk : Nat → Nat} (hI : zInv F cn pp ss kk tn) {b : Int} (hb0 : zIn b) : zRO l yX0_bySize cX0_bySize 2 (some .int) ({ frames := 0, cells := 0, slots := 0, locals := 0 } : Room) G (wX h0 a1 a2 a3 dA cn pp ss kk tn) [(dA, .int)] [.ref h0, .int (zI b)] (fun r => ∃ q : Int, r = zI q ∧ zsBySize F b q) := by
  refine zro_enter (by decide) (Nat.le_of_ble_eq_true rfl) ?_
  intro p e s m below meth c hx hb hr hml hown hlocks hts hP hK ls hl
  have hown : s.vm.findClass RX0 = some m.cls := hown
  have hl : lv_has ls 2 [(0, .ref h0), (1, .int (zI b))] := hl
  have hc128 := zInv_c hI
  have ht256 := zInv_t hI
  refine lv_iload_n hx hb dX0_bySize_0 rfl (lv_at hl 1 rfl) ?_
  refine zr_if_lt (tgt := 12) hx hb dX0_bySize_1 (by decide) (by omega) (fun c1 => ?_) (fun c1 => ?_)
  · refine zr_bipush (-6) hx hb dX0_bySize_12 (by decide) ?_
    refine lv_goto (tgt := 27) hx hb dX0_bySize_14 (by decide) ?_
    exact zret_roi (v := zI (-6)) hx hb hr hlocks dX0_bySize_27 ⟨-6, rfl, zx_byno hI (by omega)⟩
  · refine lv_iload_n hx hb dX0_bySize_4 rfl (lv_at hl 1 rfl) ?_
    refine lv_aload_n hx hb dX0_bySize_5 rfl (lv_at hl 0 rfl) ?_
    refine va_get (D := G) (ci := 0) (v := .int (zI ((cn : Nat) : Int))) (C := RX0) (T := TX0) (N := 5) hx hb hts in_X0 hown hK hP 0 rfl rfl 0 (by decide) (hts _ q41) (fun _ h9 => h9) rfl dX0_bySize_6 ?_
    refine zr_icmp_lt (tgt := 17) hx hb dX0_bySize_9 (by decide) (by omega) (fun c9 => ?_) (fun c9 => ?_)
    · obtain ⟨x, rfl⟩ := Int.eq_ofNat_of_zero_le (show 0 ≤ b by omega)
      have hk9 := zInv_k hI x (by omega)
      refine lv_aload_n hx hb dX0_bySize_17 rfl (lv_at hl 0 rfl) ?_
      refine va_get (D := G) (ci := 0) (v := .ref a3) (C := RX0) (T := TX0) (N := 5) hx hb hts in_X0 hown hK hP 0 rfl rfl 3 (by decide) (hts _ q44) (fun _ h9 => h9) rfl dX0_bySize_18 ?_
      refine lv_iload_n hx hb dX0_bySize_21 rfl (lv_at hl 1 rfl) ?_
      refine zr_iald hx hb hK hP 3 0 rfl rfl x rfl (by omega) (by decide) dX0_bySize_22 ?_
      refine zr_sipush ((256 : Nat) : Int) hx hb dX0_bySize_23 (by decide) ?_
      refine zr_iremN hx hb (by omega) (by decide) (by decide) dX0_bySize_26 ?_
      exact zret_roi (v := zI (((kk x) % 256 : Nat) : Int)) hx hb hr hlocks dX0_bySize_27 ⟨_, rfl, zx_by hI (by omega)⟩
    · refine zr_bipush (-6) hx hb dX0_bySize_12 (by decide) ?_
      refine lv_goto (tgt := 27) hx hb dX0_bySize_14 (by decide) ?_
      exact zret_roi (v := zI (-6)) hx hb hr hlocks dX0_bySize_27 ⟨-6, rfl, zx_byno hI (by omega)⟩
set_option maxHeartbeats 4000000 in
set_option maxRecDepth 100000 in
theorem metX0_atLeast (l : Launch) (G : va_G) {h0 a1 a2 a3 : Nat} {dA : ClassId} {F : Nat → Bool} {cn tn : Nat} {pp ss kk : Nat → Nat} (hI : zInv F cn pp ss kk tn) {b : Int} (hb0 : zIn b) : zRO l yX0_atLeast cX0_atLeast 2 (some .int) ({ frames := 1, cells := 0, slots := 0, locals := 24 } : Room) G (wX h0 a1 a2 a3 dA cn pp ss kk tn) [(dA, .int)] [.ref h0, .int (zI b)] (fun r => r = zI ((zCt (zAl F b) 256 : Nat) : Int)) := by
  refine zro_enter (by decide) (Nat.le_of_ble_eq_true rfl) ?_
  intro p e s m below meth c hx hb hr hml hown hlocks hts hP hK ls hl
  have hown : s.vm.findClass RX0 = some m.cls := hown
  have hl : lv_has ls 2 [(0, .ref h0), (1, .int (zI b))] := hl
  have hc128 := zInv_c hI
  have ht256 := zInv_t hI
  refine lv_iload_n hx hb dX0_atLeast_0 rfl (lv_at hl 1 rfl) ?_
  refine zr_sipush ((256 : Nat) : Int) hx hb dX0_atLeast_1 (by decide) ?_
  refine zr_icmp_le (tgt := 9) hx hb dX0_atLeast_4 (by decide) (by omega) (fun c4 => ?_) (fun c4 => ?_)
  · refine lv_iload_n hx hb dX0_atLeast_9 rfl (lv_at hl 1 rfl) ?_
    refine zr_iconstN 1 hx hb dX0_atLeast_10 rfl ?_
    refine zr_icmp_ge (tgt := 19) hx hb dX0_atLeast_11 (by decide) (by omega) (fun c11 => ?_) (fun c11 => ?_)
    · obtain ⟨x, rfl⟩ := Int.eq_ofNat_of_zero_le (show 0 ≤ b by omega)
      refine lv_aload_n hx hb dX0_atLeast_19 rfl (lv_at hl 0 rfl) ?_
      refine va_get (D := G) (ci := 0) (v := .int (zI ((cn : Nat) : Int))) (C := RX0) (T := TX0) (N := 5) hx hb hts in_X0 hown hK hP 0 rfl rfl 0 (by decide) (hts _ q41) (fun _ h9 => h9) rfl dX0_atLeast_20 ?_
      refine lv_aload_n hx hb dX0_atLeast_23 rfl (lv_at hl 0 rfl) ?_
      refine lv_iload_n hx hb dX0_atLeast_24 rfl (lv_at hl 1 rfl) ?_
      refine zr_sipush ((256 : Nat) : Int) hx hb dX0_atLeast_25 (by decide) ?_
      refine zr_imulN hx hb dX0_atLeast_28 ?_
      refine zc_ro (n := 1) (As := [.int (zI ((x * 256 : Nat) : Int))]) (rest := [.int (zI ((cn : Nat) : Int))]) ⟨hx, hb, hml, hown, hts⟩ (metX0_keyFrom l G hI (b := x * 256) (by omega)) (lw_V q37 q39 qs2 q15 q40) ⟨rfl, rfl⟩ (by decide +kernel) ⟨Nat.le_of_ble_eq_true rfl, Nat.le_of_ble_eq_true rfl⟩ hK hP 0 0 rfl rfl rfl rfl rfl hl (Nat.le_of_ble_eq_true rfl) ⟨Nat.zero_le _, Nat.zero_le _⟩ dX0_atLeast_29 (fun r29 h29 => ?_)
      obtain ⟨i, hi1, rfl, hi2, hi3⟩ := h29
      refine zr_isubN hx hb (by omega) dX0_atLeast_32 ?_
      exact zret_roi (v := zI ((cn - i : Nat) : Int)) hx hb hr hlocks dX0_atLeast_33 (by rw [zx_atl hI hi1 hi2 hi3])
    · refine lv_aload_n hx hb dX0_atLeast_14 rfl (lv_at hl 0 rfl) ?_
      refine va_get (D := G) (ci := 0) (v := .int (zI ((cn : Nat) : Int))) (C := RX0) (T := TX0) (N := 5) hx hb hts in_X0 hown hK hP 0 rfl rfl 0 (by decide) (hts _ q41) (fun _ h9 => h9) rfl dX0_atLeast_15 ?_
      exact zret_roi (v := zI ((cn : Nat) : Int)) hx hb hr hlocks dX0_atLeast_18 (by rw [zx_atl_low hI (by omega)])
  · refine zr_iconstN 0 hx hb dX0_atLeast_7 rfl ?_
    exact zret_roi (v := zI ((0 : Nat) : Int)) hx hb hr hlocks dX0_atLeast_8 (by rw [zx_atl_big hI (by omega)])
end
section
/-! takeNear, give, takePieces: the choices of the index, in words of the map -/
section ZY
variable {F : Nat → Bool} {c t : Nat} {p s k : Nat → Nat}
theorem zy_left (h : zInv F c p s k t) {i w rt x y : Nat} (hw : w + 1 ≤ i) (hic : i ≤ c) (h1 : ∀ j, j < i → p j < y) (h2 : ∀ j, i ≤ j → j < c → y ≤ p j) (hl : ∀ j, w + 1 ≤ j → j < i → s j < x) (hr : ∀ j, i ≤ j → j < rt → s j < x) (hx : x ≤ s w) (hR : rt = c ∨ (rt < c ∧ i ≤ rt ∧ ((y : Int) - (p w : Int) ≤ (p rt : Int) - (y : Int)))) :
    zBg F (p w) = true ∧ x ≤ zRun F (p w) ∧ ∀ z, zBg F z = true → x ≤ zRun F z → zAw (p w) y < zAw z y ∨ (zAw (p w) y = zAw z y ∧ p w ≤ z) := by
  have hwc : w < c := by omega
  rw [zInv_run h hwc]
  refine ⟨zx_bg h hwc, hx, fun z hz hxz => ?_⟩
  obtain ⟨q, hq, e1, e2⟩ := zx_bgr h hz
  have a1 := h1 w (by omega)
  unfold zAw
  rcases Nat.lt_or_ge q i with g | g
  · have hqw : q ≤ w := by
      rcases Nat.lt_or_ge w q with v | v
      · have := hl q v g; omega
      · exact v
    have a2 := h1 q g
    rcases Nat.eq_or_lt_of_le hqw with v | v
    · subst v; omega
    · have := zInv_pm h q w v hwc; omega
  · have a2 := h2 q g hq
    have hqr : rt ≤ q := by
      rcases Nat.lt_or_ge q rt with v | v
      · have := hr q g v; omega
      · exact v
    rcases hR with hR | ⟨r1, r2, r3⟩
    · omega
    · have a3 : p rt ≤ p q := by
        rcases Nat.eq_or_lt_of_le hqr with v | v
        · rw [v]; exact Nat.le_refl _
        · exact Nat.le_of_lt (zInv_pm h rt q v hq)
      omega
theorem zy_right (h : zInv F c p s k t) {i lf rt x y : Nat} (hlf : lf ≤ i) (hic : i ≤ c) (h1 : ∀ j, j < i → p j < y) (h2 : ∀ j, i ≤ j → j < c → y ≤ p j) (hl : ∀ j, lf ≤ j → j < i → s j < x) (hr : ∀ j, i ≤ j → j < rt → s j < x) (hir : i ≤ rt) (hrc : rt < c) (hx : x ≤ s rt) (hL : lf = 0 ∨ ∃ w, lf = w + 1 ∧ (p rt : Int) - (y : Int) < (y : Int) - (p w : Int)) :
    zBg F (p rt) = true ∧ x ≤ zRun F (p rt) ∧ ∀ z, zBg F z = true → x ≤ zRun F z → zAw (p rt) y < zAw z y ∨ (zAw (p rt) y = zAw z y ∧ p rt ≤ z) := by
  rw [zInv_run h hrc]
  refine ⟨zx_bg h hrc, hx, fun z hz hxz => ?_⟩
  obtain ⟨q, hq, e1, e2⟩ := zx_bgr h hz
  have a1 := h2 rt hir hrc
  unfold zAw
  rcases Nat.lt_or_ge q i with g | g
  · have a2 := h1 q g
    rcases hL with hL | ⟨w, hL, hd⟩
    · have := hl q (by omega) g; omega
    · have hqw : q ≤ w := by
        rcases Nat.lt_or_ge w q with v | v
        · have := hl q (by omega) g; omega
        · exact v
      rcases Nat.eq_or_lt_of_le hqw with v | v
      · subst v; omega
      · have := zInv_pm h q w v (by omega); omega
  · have hqr : rt ≤ q := by
      rcases Nat.lt_or_ge q rt with v | v
      · have := hr q g v; omega
      · exact v
    have a3 : p rt ≤ p q := by
      rcases Nat.eq_or_lt_of_le hqr with v | v
      · rw [v]; exact Nat.le_refl _
      · exact Nat.le_of_lt (zInv_pm h rt q v hq)
    omega
theorem zy_no (h : zInv F c p s k t) {i x : Nat} (hl : ∀ j, 0 ≤ j → j < i → s j < x) (hr : ∀ j, i ≤ j → j < c → s j < x) : ∀ b, zBg F b = true → zRun F b < x := by
  intro b hb
  obtain ⟨q, hq, e1, e2⟩ := zx_bgr h hb
  rcases Nat.lt_or_ge q i with g | g
  · have := hl q (Nat.zero_le _) g; omega
  · have := hr q g hq; omega
-- give
theorem zg_nofree (h : zInv F c p s k t) {i x y : Nat} (h1 : ∀ j, j < i → p j < x) (h2 : ∀ j, i ≤ j → j < c → x ≤ p j) (hB : i = 0 ∨ ∃ w, i = w + 1 ∧ w < c ∧ p w + s w ≤ x) (hN : c ≤ i ∨ y ≤ p i) : ∀ b, x ≤ b → b < y → F b = false := by
  intro b g1 g2
  cases hF : F b with
  | false => rfl
  | true =>
    obtain ⟨q, hq, e1, e2⟩ := (h.2.2.1 b).mp hF
    rcases Nat.lt_or_ge q i with g | g
    · rcases hB with hB | ⟨w, hB, hwc, hw⟩
      · omega
      · rcases Nat.eq_or_lt_of_le (show q ≤ w by omega) with v | v
        · subst v; omega
        · have a := h.2.1 q w v hwc
          have b2 := h.1 w hwc
          omega
    · rcases hN with hN | hN
      · omega
      · rcases Nat.eq_or_lt_of_le g with v | v
        · subst v; omega
        · have := zInv_pm h i q v hq; omega
theorem zg_prevA (h : zInv F c p s k t) {x : Nat} (h2 : ∀ j, 0 ≤ j → j < c → x ≤ p j) : x = 0 ∨ F (x - 1) = false := by
  rcases Nat.eq_zero_or_pos x with q | q
  · exact Or.inl q
  · refine Or.inr ?_
    cases hF : F (x - 1) with
    | false => rfl
    | true =>
      obtain ⟨i, hi, e1, e2⟩ := (h.2.2.1 _).mp hF
      have := h2 i (Nat.zero_le _) hi
      omega
theorem zg_prevB (h : zInv F c p s k t) {x w : Nat} (hw : w + 1 ≤ c) (h1 : ∀ j, j < w + 1 → p j < x) (h2 : ∀ j, w + 1 ≤ j → j < c → x ≤ p j) (hx : F x = false) (hne : p w + s w ≠ x) : x = 0 ∨ F (x - 1) = false := by
  rcases Nat.eq_zero_or_pos x with q | q
  · exact Or.inl q
  · refine Or.inr ?_
    cases hF : F (x - 1) with
    | false => rfl
    | true =>
      obtain ⟨i, hi, e1, e2⟩ := (h.2.2.1 _).mp hF
      rcases Nat.lt_trichotomy i w with g | g | g
      · have a := h.2.1 i w g (by omega)
        have b := h1 w (by omega)
        omega
      · subst g
        have a := h1 i (by omega)
        have b := zInv_in h hi (b := x) (by omega) (by omega)
        rw [hx] at b
        cases b
      · have := h2 i g hi; omega
theorem zg_sepA {x en : Nat} (hfr : ∀ b, x ≤ b → b ≤ en → F b = false) (hx : x = 0 ∨ F (x - 1) = false) (he : x < en) : ∀ b, x ≤ b + 1 → b ≤ x + (en - x) → F b = false := by
  intro b g1 g2
  rcases Nat.lt_or_ge b x with q | q
  · rcases hx with hx | hx
    · omega
    · rw [show b = x - 1 by omega]; exact hx
  · exact hfr b q (by omega)
theorem zg_szA {x en : Nat} (hfr : ∀ b, x ≤ b → b ≤ en → F b = false) (hx : x = 0 ∨ F (x - 1) = false) (he : x < en) : zsSz (zM F x (en - x) true) x ((en - x : Nat) : Int) := by
  refine Or.inr ⟨x, en, Nat.le_refl _, he, fun b g1 g2 => zM_in g1 (by omega), ?_, ?_, rfl⟩
  · rcases hx with hx | hx
    · exact Or.inl hx
    · rcases Nat.eq_zero_or_pos x with q | q
      · exact Or.inl q
      · exact Or.inr (by rw [zM_out (by omega)]; exact hx)
  · rw [zM_out (by omega)]; exact hfr en (by omega) (Nat.le_refl _)
theorem zg_sepC (h : zInv F c p s k t) {x en w : Nat} (hw : w < c) (hfr : ∀ b, x ≤ b → b ≤ en → F b = false) (he : x < en) (e : p w + s w = x) : ∀ b, p w ≤ b + 1 → b ≤ p w + (en - p w) → zM F (p w) (s w) false b = false := by
  intro b g1 g2
  rcases Nat.lt_or_ge b (p w) with q | q
  · rw [zM_out (by omega)]; exact zInv_before h hw (by omega)
  · rcases Nat.lt_or_ge b x with v | v
    · exact zM_in q (by omega)
    · rw [zM_out (by omega)]; exact hfr b v (by omega)
theorem zg_eqC (h : zInv F c p s k t) {x en w : Nat} (hw : w < c) (he : x < en) (e : p w + s w = x) : zM (zM F (p w) (s w) false) (p w) (en - p w) true = zM F x (en - x) true := by
  funext b
  by_cases q1 : p w ≤ b ∧ b < en
  · rw [zM_in q1.1 (by omega)]
    rcases Nat.lt_or_ge b x with v | v
    · rw [zM_out (by omega)]; exact (zInv_in h hw q1.1 (by omega)).symm
    · rw [zM_in v (by omega)]
  · have := h.1 w hw
    rw [zM_out (by omega), zM_out (by omega), zM_out (by omega)]
theorem zg_szC (h : zInv F c p s k t) {x en w : Nat} (hw : w < c) (hfr : ∀ b, x ≤ b → b ≤ en → F b = false) (he : x < en) (e : p w + s w = x) : zsSz (zM F x (en - x) true) x ((en - p w : Nat) : Int) := by
  have hs := h.1 w hw
  refine Or.inr ⟨p w, en, by omega, he, fun b g1 g2 => ?_, ?_, ?_, rfl⟩
  · rcases Nat.lt_or_ge b x with v | v
    · rw [zM_out (by omega)]; exact zInv_in h hw g1 (by omega)
    · exact zM_in v (by omega)
  · rcases Nat.eq_zero_or_pos (p w) with q | q
    · exact Or.inl q
    · exact Or.inr (by rw [zM_out (by omega)]; exact zInv_before h hw (by omega))
  · rw [zM_out (by omega)]; exact hfr en (by omega) (Nat.le_refl _)
/-- the extent behind is taken out first -/
theorem zg_nextfree (h : zInv F c p s k t) {i x j : Nat} (hi : i < c) (e : p i = x + j) (hfr : ∀ b, x ≤ b → b < x + j → F b = false) : ∀ b, x ≤ b → b ≤ x + j + s i → zM F (p i) (s i) false b = false := by
  intro b g1 g2
  rcases Nat.lt_or_ge b (x + j) with q | q
  · rw [zM_out (by omega)]; exact hfr b g1 q
  · rcases Nat.lt_or_ge b (x + j + s i) with v | v
    · exact zM_in (by omega) (by omega)
    · rw [zM_out (by omega), show b = p i + s i by omega]; exact zInv_end h hi
theorem zg_nexteq (h : zInv F c p s k t) {i x j : Nat} (hi : i < c) (e : p i = x + j) : zM (zM F (p i) (s i) false) x (x + j + s i - x) true = zM F x j true := by
  funext b
  by_cases q1 : x ≤ b ∧ b < x + j + s i
  · rw [zM_in q1.1 (by omega)]
    rcases Nat.lt_or_ge b (x + j) with v | v
    · rw [zM_in q1.1 v]
    · rw [zM_out (by omega)]; exact (zInv_in h hi (by omega) (by omega)).symm
  · rw [zM_out (by omega), zM_out (by omega), zM_out (by omega)]
theorem zg_lf {i c x : Nat} (h : zInv F c p s k t) (hi : i < c) (h1 : ∀ j, j < i → p j < x) (h2 : ∀ j, i ≤ j → j < c → x ≤ p j) : i ≤ c - 1 ∧ (∀ j, j < i → zLf p i (c - 1) j < x) ∧ (∀ j, i ≤ j → j < c - 1 → x ≤ zLf p i (c - 1) j) := by
  refine ⟨by omega, fun j hj => ?_, fun j h3 h4 => ?_⟩
  · rw [zLf_lt hj]; exact h1 j hj
  · rw [zLf_ge h3 h4]; exact h2 (j + 1) (by omega) (by omega)
-- takePieces
theorem zPS_end {F : Nat → Bool} {n g : Nat} (h : n ≤ g ∨ ∀ b, zBg F b = false) : ∀ d, zPS d F n g g F := by
  intro d
  cases d with
  | zero => exact ⟨rfl, rfl⟩
  | succ d => exact Or.inl ⟨h, rfl, rfl⟩
theorem zx_bg0 (h : zInv F 0 p s k t) : ∀ b, zBg F b = false := by
  intro b
  cases hb : zBg F b with
  | false => rfl
  | true =>
    obtain ⟨i, hi, _⟩ := (zInv_bg h b).mp hb
    exact absurd hi (Nat.not_lt_zero _)
end ZY
end
section
set_option maxHeartbeats 4000000 in
set_option maxRecDepth 100000 in
theorem metX0_take (l : Launch) (G : va_G) (sz : Nat) {h0 a1 a2 a3 : Nat} {dA : ClassId} {F : Nat → Bool} {cn tn : Nat} {pp ss kk : Nat → Nat} (hI : zInv F cn pp ss kk tn) {b : Int} (hb0 : zIn b) : zMU l yX0_take cX0_take 5 (some .int) ({ frames := 3, cells := 0, slots := 0, locals := 74 } : Room) G (wX h0 a1 a2 a3 dA cn pp ss kk tn) [(dA, .int)] [.ref h0, .int (zI b)] sz (zQi G [(dA, .int)] (wXu h0 a1 a2 a3 dA) (fun r u => ∃ (q : Int) (F9 : Nat → Bool), r = zI q ∧ zsTake F b q F9 ∧ zIv F9 u)) 0 0 := by
  refine zmu_enter (by decide) (Nat.le_of_ble_eq_true rfl) ?_
  intro p e s m below meth c A H locs hx hb hr hml hown hlocks hnm hts hA hP hK hD hS ls hl
  have hown : s.vm.findClass RX0 = some m.cls := hown
  have hl : lv_has ls 5 [(0, .ref h0), (1, .int (zI b))] := hl
  have hc128 := zInv_c hI
  have ht256 := zInv_t hI
  refine lv_iload_n hx hb dX0_take_0 rfl (lv_at hl 1 rfl) ?_
  refine zc_st (n := 1) (As := [.int (zI b)]) (rest := []) ⟨hx, hb, hml, hown, hts⟩ (metX0_badSize l G hb0) (lw_S q62 q63 q15 q64) ⟨rfl, rfl⟩ (by decide +kernel) ⟨Nat.le_of_ble_eq_true rfl, Nat.le_of_ble_eq_true rfl⟩ hK rfl rfl hl (Nat.le_of_ble_eq_true rfl) ⟨Nat.zero_le _, Nat.zero_le _⟩ dX0_take_1 (fun r1 h1 => ?_)
  rcases h1 with ⟨er1, h1⟩ | ⟨er1, h1⟩
  · subst er1
    refine zr_if_eq (tgt := 10) hx hb dX0_take_4 (by decide) (by omega) (fun c4 => by exfalso; omega) (fun c4 => ?_)
    refine zr_bipush (-2) hx hb dX0_take_7 (by decide) ?_
    exact zret_mui (v := zI (-2)) hx hb hr hlocks dX0_take_9 (cn, pp, ss, kk, tn) hP hK hD hS ⟨-2, F, rfl, Or.inl ⟨h1, rfl, rfl⟩, hI⟩
  · subst er1
    refine zr_if_eq (tgt := 10) hx hb dX0_take_4 (by decide) (by omega) (fun c4 => ?_) (fun c4 => by exfalso; omega)
    obtain ⟨x, rfl⟩ := Int.eq_ofNat_of_zero_le (show 0 ≤ b by omega)
    refine lv_aload_n hx hb dX0_take_10 rfl (lv_at hl 0 rfl) ?_
    refine lv_iload_n hx hb dX0_take_11 rfl (lv_at hl 1 rfl) ?_
    refine zr_sipush ((256 : Nat) : Int) hx hb dX0_take_12 (by decide) ?_
    refine zr_imulN hx hb dX0_take_15 ?_
    refine zc_ro (n := 1) (As := [.int (zI ((x * 256 : Nat) : Int))]) (rest := []) ⟨hx, hb, hml, hown, hts⟩ (metX0_keyFrom l G hI (b := x * 256) (by omega)) (lw_V q37 q39 qs2 q15 q40) ⟨rfl, rfl⟩ (by decide +kernel) ⟨Nat.le_of_ble_eq_true rfl, Nat.le_of_ble_eq_true rfl⟩ hK hP 0 0 rfl rfl rfl rfl rfl hl (Nat.le_of_ble_eq_true rfl) ⟨Nat.zero_le _, Nat.zero_le _⟩ dX0_take_16 (fun r16 h16 => ?_)
    obtain ⟨r, hr1, rfl, hr2, hr3⟩ := h16
    refine lv_istore_n (lv' := [(2, .int (zI ((r : Nat) : Int))), (0, .ref h0), (1, .int (zI ((x : Nat) : Int)))]) hx hb dX0_take_19 rfl hl (by decide) rfl (fun ls hl => ?_)
    refine lv_iload_n hx hb dX0_take_20 rfl (lv_at hl 0 rfl) ?_
    refine lv_aload_n hx hb dX0_take_21 rfl (lv_at hl 1 rfl) ?_
    refine va_get (D := G) (ci := 0) (v := .int (zI ((cn : Nat) : Int))) (C := RX0) (T := TX0) (N := 5) hx hb hts in_X0 hown hK hP 0 rfl rfl 0 (by decide) (hts _ q41) (fun _ h9 => h9) rfl dX0_take_22 ?_
    refine zr_icmp_ne (tgt := 31) hx hb dX0_take_25 (by decide) (by omega) (fun c25 => ?_) (fun c25 => ?_)
    · have hrc : r < cn := by omega
      obtain ⟨i0, hi0, e1, e2, e3⟩ := zx_key hI hrc
      have hp9 := zInv_p hI i0 hi0
      have hk9 := zInv_k hI r hrc
      have hsome := zx_some hI hrc hr2 hr3 hi0 e1
      have hrn := zInv_run hI hi0
      have hx9 := hsome.2.1
      refine lv_aload_n hx hb dX0_take_31 rfl (lv_at hl 1 rfl) ?_
      refine va_get (D := G) (ci := 0) (v := .ref a3) (C := RX0) (T := TX0) (N := 5) hx hb hts in_X0 hown hK hP 0 rfl rfl 3 (by decide) (hts _ q44) (fun _ h9 => h9) rfl dX0_take_32 ?_
      refine lv_iload_n hx hb dX0_take_35 rfl (lv_at hl 0 rfl) ?_
      refine zr_iald hx hb hK hP 3 0 rfl rfl r rfl (by omega) (by decide) dX0_take_36 ?_
      refine zr_sipush ((256 : Nat) : Int) hx hb dX0_take_37 (by decide) ?_
      refine zr_iremN hx hb (by omega) (by decide) (by decide) dX0_take_40 ?_
      refine zr_top (y := ((pp i0 : Nat) : Int)) (congrArg (fun z : Nat => (z : Int)) e2) ?_
      refine lv_istore_n (lv' := [(3, .int (zI ((pp i0 : Nat) : Int))), (2, .int (zI ((r : Nat) : Int))), (0, .ref h0), (1, .int (zI ((x : Nat) : Int)))]) hx hb dX0_take_41 rfl hl (by decide) rfl (fun ls hl => ?_)
      refine lv_aload_n hx hb dX0_take_42 rfl (lv_at hl 2 rfl) ?_
      refine lv_iload_n hx hb dX0_take_43 rfl (lv_at hl 0 rfl) ?_
      refine zc_ro (n := 1) (As := [.int (zI ((pp i0 : Nat) : Int))]) (rest := []) ⟨hx, hb, hml, hown, hts⟩ (metX0_firstFrom l G hI (b := pp i0) (by omega)) (lw_V q33 q35 qs1 q15 q36) ⟨rfl, rfl⟩ (by decide +kernel) ⟨Nat.le_of_ble_eq_true rfl, Nat.le_of_ble_eq_true rfl⟩ hK hP 0 0 rfl rfl rfl rfl rfl hl (Nat.le_of_ble_eq_true rfl) ⟨Nat.zero_le _, Nat.zero_le _⟩ dX0_take_44 (fun r44 h44 => ?_)
      obtain ⟨i, hi1, rfl, hi2, hi3⟩ := h44
      have e4 : i0 = i := (zx_first hI hi0 hi1 hi2 hi3).symm
      subst e4
      refine lv_istore (lv' := [(4, .int (zI ((i0 : Nat) : Int))), (3, .int (zI ((pp i0 : Nat) : Int))), (2, .int (zI ((r : Nat) : Int))), (0, .ref h0), (1, .int (zI ((x : Nat) : Int)))]) hx hb dX0_take_47 hl (by decide) rfl (fun ls hl => ?_)
      refine lv_aload_n hx hb dX0_take_49 rfl (lv_at hl 3 rfl) ?_
      refine lv_iload hx hb dX0_take_50 (lv_at hl 0 rfl) ?_
      refine lv_iload_n hx hb dX0_take_52 rfl (lv_at hl 1 rfl) ?_
      refine lv_iload_n hx hb dX0_take_53 rfl (lv_at hl 4 rfl) ?_
      refine zc_muv (n := 3) (As := [.int (zI ((i0 : Nat) : Int)), .int (zI ((pp i0 : Nat) : Int)), .int (zI ((x : Nat) : Int))]) (rest := []) ⟨hx, hb, hml, hown, hts⟩ (metX0_cut l G H.size hI hi0 (f := pp i0) (nn := x) (Nat.le_refl _) (by omega) (by omega)) (lw_V q65 q67 qs3 q15 q68) ⟨rfl, rfl⟩ (by decide +kernel) ⟨Nat.le_of_ble_eq_true rfl, Nat.le_of_ble_eq_true rfl⟩ hK hP hD hS hA 0 0 rfl rfl rfl rfl rfl hl (Nat.le_of_ble_eq_true rfl) ⟨Nat.zero_le _, Nat.zero_le _⟩ dX0_take_54 (fun u54 H locs h54 hP hD hS => ?_)
      obtain ⟨c1, p1, s1, k1, t1⟩ := u54
      have hP : va_P G vwCl (wX h0 a1 a2 a3 dA c1 p1 s1 k1 t1) H := hP
      have hD : va_D A (wX h0 a1 a2 a3 dA c1 p1 s1 k1 t1) := hD
      refine lv_iload_n hx hb dX0_take_57 rfl (lv_at hl 1 rfl) ?_
      exact zret_mui (v := zI ((pp i0 : Nat) : Int)) hx hb hr hlocks dX0_take_58 (c1, p1, s1, k1, t1) hP hK hD hS ⟨_, zM F (pp i0) x false, rfl, Or.inr ⟨x, rfl, by omega, by omega, Or.inr ⟨pp i0, hsome.1, hsome.2.1, hsome.2.2, rfl, rfl⟩⟩, h54⟩
    · refine zr_bipush (-3) hx hb dX0_take_28 (by decide) ?_
      exact zret_mui (v := zI (-3)) hx hb hr hlocks dX0_take_30 (cn, pp, ss, kk, tn) hP hK hD hS ⟨-3, F, rfl, Or.inr ⟨x, rfl, by omega, by omega, Or.inl ⟨zx_none hI (fun j hj => hr2 j (by omega)), rfl, rfl⟩⟩, hI⟩
set_option maxHeartbeats 4000000 in
set_option maxRecDepth 100000 in
theorem metX0_takeAt (l : Launch) (G : va_G) (sz : Nat) {h0 a1 a2 a3 : Nat} {dA : ClassId} {F : Nat → Bool} {cn tn : Nat} {pp ss kk : Nat → Nat} (hI : zInv F cn pp ss kk tn) {a b : Int} (ha0 : zIn a) (hb0 : zIn b) : zMU l yX0_takeAt cX0_takeAt 4 (some .int) ({ frames := 3, cells := 0, slots := 0, locals := 74 } : Room) G (wX h0 a1 a2 a3 dA cn pp ss kk tn) [(dA, .int)] [.ref h0, .int (zI a), .int (zI b)] sz (zQi G [(dA, .int)] (wXu h0 a1 a2 a3 dA) (fun r u => ∃ (q : Int) (F9 : Nat → Bool), r = zI q ∧ zsAt F a b q F9 ∧ zIv F9 u)) 0 0 := by
  refine zmu_enter (by decide) (Nat.le_of_ble_eq_true rfl) ?_
  intro p e s m below meth c A H locs hx hb hr hml hown hlocks hnm hts hA hP hK hD hS ls hl
  have hown : s.vm.findClass RX0 = some m.cls := hown
  have hl : lv_has ls 4 [(0, .ref h0), (1, .int (zI a)), (2, .int (zI b))] := hl
  have hc128 := zInv_c hI
  have ht256 := zInv_t hI
  refine lv_iload_n hx hb dX0_takeAt_0 rfl (lv_at hl 1 rfl) ?_
  refine zc_st (n := 1) (As := [.int (zI a)]) (rest := []) ⟨hx, hb, hml, hown, hts⟩ (metX0_badBlock l G ha0) (lw_S q77 q78 q15 q79) ⟨rfl, rfl⟩ (by decide +kernel) ⟨Nat.le_of_ble_eq_true rfl, Nat.le_of_ble_eq_true rfl⟩ hK rfl rfl hl (Nat.le_of_ble_eq_true rfl) ⟨Nat.zero_le _, Nat.zero_le _⟩ dX0_takeAt_1 (fun r1 h1 => ?_)
  rcases h1 with ⟨er1, h1⟩ | ⟨er1, h1⟩
  · subst er1
    refine zr_if_eq (tgt := 9) hx hb dX0_takeAt_4 (by decide) (by omega) (fun c4 => by exfalso; omega) (fun c4 => ?_)
    refine zr_iconst hx hb dX0_takeAt_7 ?_
    exact zret_mui (v := zI (-1)) hx hb hr hlocks dX0_takeAt_8 (cn, pp, ss, kk, tn) hP hK hD hS ⟨-1, F, rfl, Or.inl ⟨h1, rfl, rfl⟩, hI⟩
  · subst er1
    refine zr_if_eq (tgt := 9) hx hb dX0_takeAt_4 (by decide) (by omega) (fun c4 => ?_) (fun c4 => by exfalso; omega)
    obtain ⟨x, rfl⟩ := Int.eq_ofNat_of_zero_le (show 0 ≤ a by omega)
    refine lv_iload_n hx hb dX0_takeAt_9 rfl (lv_at hl 1 rfl) ?_
    refine lv_iload_n hx hb dX0_takeAt_10 rfl (lv_at hl 2 rfl) ?_
    refine zc_st (n := 2) (As := [.int (zI ((x : Nat) : Int)), .int (zI b)]) (rest := []) ⟨hx, hb, hml, hown, hts⟩ (metX0_beyond l G (f := ((x : Nat) : Int)) (by omega) hb0) (lw_S q84 q85 q15 q86) ⟨rfl, rfl⟩ (by decide +kernel) ⟨Nat.le_of_ble_eq_true rfl, Nat.le_of_ble_eq_true rfl⟩ hK rfl rfl hl (Nat.le_of_ble_eq_true rfl) ⟨Nat.zero_le _, Nat.zero_le _⟩ dX0_takeAt_11 (fun r11 h11 => ?_)
    rcases h11 with ⟨er11, h11⟩ | ⟨er11, h11⟩
    · subst er11
      refine zr_if_eq (tgt := 20) hx hb dX0_takeAt_14 (by decide) (by omega) (fun c14 => by exfalso; omega) (fun c14 => ?_)
      refine zr_bipush (-2) hx hb dX0_takeAt_17 (by decide) ?_
      exact zret_mui (v := zI (-2)) hx hb hr hlocks dX0_takeAt_19 (cn, pp, ss, kk, tn) hP hK hD hS ⟨-2, F, rfl, Or.inr ⟨x, rfl, by omega, Or.inl ⟨h11, rfl, rfl⟩⟩, hI⟩
    · subst er11
      refine zr_if_eq (tgt := 20) hx hb dX0_takeAt_14 (by decide) (by omega) (fun c14 => ?_) (fun c14 => by exfalso; omega)
      obtain ⟨j, rfl⟩ := Int.eq_ofNat_of_zero_le (show 0 ≤ b by omega)
      refine lv_aload_n hx hb dX0_takeAt_20 rfl (lv_at hl 0 rfl) ?_
      refine lv_iload_n hx hb dX0_takeAt_21 rfl (lv_at hl 1 rfl) ?_
      refine zc_ro (n := 1) (As := [.int (zI ((x : Nat) : Int))]) (rest := []) ⟨hx, hb, hml, hown, hts⟩ (metX0_extentOf l G hI (b := x) (by omega)) (lw_V q87 q89 qs5 q15 q90) ⟨rfl, rfl⟩ (by decide +kernel) ⟨Nat.le_of_ble_eq_true rfl, Nat.le_of_ble_eq_true rfl⟩ hK hP 0 0 rfl rfl rfl rfl rfl hl (Nat.le_of_ble_eq_true rfl) ⟨Nat.zero_le _, Nat.zero_le _⟩ dX0_takeAt_22 (fun r22 h22 => ?_)
      rcases h22 with ⟨i, hi1, rfl, hi2, hi3⟩ | ⟨rfl, hi1⟩
      · have hps := hI.1 i hi1
        refine lv_istore_n (lv' := [(3, .int (zI ((i : Nat) : Int))), (0, .ref h0), (1, .int (zI ((x : Nat) : Int))), (2, .int (zI ((j : Nat) : Int)))]) hx hb dX0_takeAt_25 rfl hl (by decide) rfl (fun ls hl => ?_)
        refine lv_iload_n hx hb dX0_takeAt_26 rfl (lv_at hl 0 rfl) ?_
        refine zr_if_lt (tgt := 49) hx hb dX0_takeAt_27 (by decide) (by omega) (fun c27 => by exfalso; omega) (fun c27 => ?_)
        refine lv_iload_n hx hb dX0_takeAt_30 rfl (lv_at hl 2 rfl) ?_
        refine lv_iload_n hx hb dX0_takeAt_31 rfl (lv_at hl 3 rfl) ?_
        refine zr_iaddN hx hb dX0_takeAt_32 ?_
        refine lv_aload_n hx hb dX0_takeAt_33 rfl (lv_at hl 1 rfl) ?_
        refine va_get (D := G) (ci := 0) (v := .ref a1) (C := RX0) (T := TX0) (N := 5) hx hb hts in_X0 hown hK hP 0 rfl rfl 1 (by decide) (hts _ q42) (fun _ h9 => h9) rfl dX0_takeAt_34 ?_
        refine lv_iload_n hx hb dX0_takeAt_37 rfl (lv_at hl 0 rfl) ?_
        refine zr_iald hx hb hK hP 1 0 rfl rfl i rfl (by omega) (by decide) dX0_takeAt_38 ?_
        refine lv_aload_n hx hb dX0_takeAt_39 rfl (lv_at hl 1 rfl) ?_
        refine va_get (D := G) (ci := 0) (v := .ref a2) (C := RX0) (T := TX0) (N := 5) hx hb hts in_X0 hown hK hP 0 rfl rfl 2 (by decide) (hts _ q43) (fun _ h9 => h9) rfl dX0_takeAt_40 ?_
        refine lv_iload_n hx hb dX0_takeAt_43 rfl (lv_at hl 0 rfl) ?_
        refine zr_iald hx hb hK hP 2 0 rfl rfl i rfl (by omega) (by decide) dX0_takeAt_44 ?_
        refine zr_iaddN hx hb dX0_takeAt_45 ?_
        refine zr_icmp_le (tgt := 52) hx hb dX0_takeAt_46 (by decide) (by omega) (fun c46 => ?_) (fun c46 => ?_)
        · refine lv_aload_n hx hb dX0_takeAt_52 rfl (lv_at hl 1 rfl) ?_
          refine lv_iload_n hx hb dX0_takeAt_53 rfl (lv_at hl 0 rfl) ?_
          refine lv_iload_n hx hb dX0_takeAt_54 rfl (lv_at hl 2 rfl) ?_
          refine lv_iload_n hx hb dX0_takeAt_55 rfl (lv_at hl 3 rfl) ?_
          refine zc_muv (n := 3) (As := [.int (zI ((i : Nat) : Int)), .int (zI ((x : Nat) : Int)), .int (zI ((j : Nat) : Int))]) (rest := []) ⟨hx, hb, hml, hown, hts⟩ (metX0_cut l G H.size hI hi1 (f := x) (nn := j) (by omega) (by omega) (by omega)) (lw_V q65 q67 qs3 q15 q68) ⟨rfl, rfl⟩ (by decide +kernel) ⟨Nat.le_of_ble_eq_true rfl, Nat.le_of_ble_eq_true rfl⟩ hK hP hD hS hA 0 0 rfl rfl rfl rfl rfl hl (Nat.le_of_ble_eq_true rfl) ⟨Nat.zero_le _, Nat.zero_le _⟩ dX0_takeAt_56 (fun u56 H locs h56 hP hD hS => ?_)
          obtain ⟨c1, p1, s1, k1, t1⟩ := u56
          have hP : va_P G vwCl (wX h0 a1 a2 a3 dA c1 p1 s1 k1 t1) H := hP
          have hD : va_D A (wX h0 a1 a2 a3 dA c1 p1 s1 k1 t1) := hD
          refine lv_aload_n hx hb dX0_takeAt_59 rfl (lv_at hl 1 rfl) ?_
          refine va_get (D := G) (ci := 0) (v := .int (zI ((c1 : Nat) : Int))) (C := RX0) (T := TX0) (N := 5) hx hb hts in_X0 hown hK hP 0 rfl rfl 0 (by decide) (hts _ q41) (fun _ h9 => h9) rfl dX0_takeAt_60 ?_
          exact zret_mui (v := zI ((c1 : Nat) : Int)) hx hb hr hlocks dX0_takeAt_63 (c1, p1, s1, k1, t1) hP hK hD hS ⟨_, zM F x j false, rfl, Or.inr ⟨x, rfl, by omega, Or.inr ⟨j, rfl, by omega, by omega, Or.inr ⟨fun z g1 g2 => zInv_in hI hi1 (by omega) (by omega), rfl, by rw [zx_count h56]⟩⟩⟩, h56⟩
        · refine zr_bipush (-4) hx hb dX0_takeAt_49 (by decide) ?_
          exact zret_mui (v := zI (-4)) hx hb hr hlocks dX0_takeAt_51 (cn, pp, ss, kk, tn) hP hK hD hS ⟨-4, F, rfl, Or.inr ⟨x, rfl, by omega, Or.inr ⟨j, rfl, by omega, by omega, Or.inl ⟨⟨pp i + ss i, by omega, by omega, zInv_end hI hi1⟩, rfl, rfl⟩⟩⟩, hI⟩
      · refine lv_istore_n (lv' := [(3, .int (zI (-1))), (0, .ref h0), (1, .int (zI ((x : Nat) : Int))), (2, .int (zI ((j : Nat) : Int)))]) hx hb dX0_takeAt_25 rfl hl (by decide) rfl (fun ls hl => ?_)
        refine lv_iload_n hx hb dX0_takeAt_26 rfl (lv_at hl 0 rfl) ?_
        refine zr_if_lt (tgt := 49) hx hb dX0_takeAt_27 (by decide) (by omega) (fun c27 => ?_) (fun c27 => by exfalso; omega)
        refine zr_bipush (-4) hx hb dX0_takeAt_49 (by decide) ?_
        exact zret_mui (v := zI (-4)) hx hb hr hlocks dX0_takeAt_51 (cn, pp, ss, kk, tn) hP hK hD hS ⟨-4, F, rfl, Or.inr ⟨x, rfl, by omega, Or.inr ⟨j, rfl, by omega, by omega, Or.inl ⟨⟨x, Nat.le_refl _, by omega, hi1⟩, rfl, rfl⟩⟩⟩, hI⟩
set_option maxHeartbeats 4000000 in
set_option maxRecDepth 100000 in
theorem metX0_clear (l : Launch) (G : va_G) (sz : Nat) {h0 a1 a2 a3 : Nat} {dA : ClassId} {cn tn : Nat} {pp ss kk : Nat → Nat} : zMU l yX0_clear cX0_clear 1 (none) ({ frames := 2, cells := 0, slots := 0, locals := 49 } : Room) G (wX h0 a1 a2 a3 dA cn pp ss kk tn) [(dA, .int)] [.ref h0] sz (zQv G [(dA, .int)] (wXu h0 a1 a2 a3 dA) (fun u => zIv (zM (fun _ => false) 0 256 true) u)) 0 0 := by
  refine zmu_enter (by decide) (Nat.le_of_ble_eq_true rfl) ?_
  intro p e s m below meth c A H locs hx hb hr hml hown hlocks hnm hts hA hP hK hD hS ls hl
  have hown : s.vm.findClass RX0 = some m.cls := hown
  have hl : lv_has ls 1 [(0, .ref h0)] := hl
  refine lv_aload_n hx hb dX0_clear_0 rfl (lv_at hl 0 rfl) ?_
  refine zr_iconstN 0 hx hb dX0_clear_1 rfl ?_
  refine va_put (D := G) (ci := 0) (v := .int (zI ((0 : Nat) : Int))) (ty := .int) (C := RX0) (T := TX0) (N := 5) hx hb hts in_X0 tyX0 tyX0_ok nmX0 hown hK hP hD hS 0 rfl rfl 0 (by decide) (hts _ q41) (fun _ h9 => h9) rfl (by decide +kernel) rfl rfl (Nat.le_of_ble_eq_true rfl) dX0_clear_2 (fun H locs hP hD hS => ?_)
  have hP : va_P G vwCl (wX h0 a1 a2 a3 dA 0 pp ss kk tn) H := hP
  have hD : va_D A (wX h0 a1 a2 a3 dA 0 pp ss kk tn) := hD
  refine lv_aload_n hx hb dX0_clear_5 rfl (lv_at hl 0 rfl) ?_
  refine zr_iconstN 0 hx hb dX0_clear_6 rfl ?_
  refine va_put (D := G) (ci := 0) (v := .int (zI ((0 : Nat) : Int))) (ty := .int) (C := RX0) (T := TX0) (N := 5) hx hb hts in_X0 tyX0 tyX0_ok nmX0 hown hK hP hD hS 0 rfl rfl 4 (by decide) (hts _ q45) (fun _ h9 => h9) rfl (by decide +kernel) rfl rfl (Nat.le_of_ble_eq_true rfl) dX0_clear_7 (fun H locs hP hD hS => ?_)
  have hP : va_P G vwCl (wX h0 a1 a2 a3 dA 0 pp ss kk 0) H := hP
  have hD : va_D A (wX h0 a1 a2 a3 dA 0 pp ss kk 0) := hD
  refine lv_aload_n hx hb dX0_clear_10 rfl (lv_at hl 0 rfl) ?_
  refine zr_iconstN 0 hx hb dX0_clear_11 rfl ?_
  refine zr_sipush ((256 : Nat) : Int) hx hb dX0_clear_12 (by decide) ?_
  refine zc_muv (n := 2) (As := [.int (zI ((0 : Nat) : Int)), .int (zI ((256 : Nat) : Int))]) (rest := []) ⟨hx, hb, hml, hown, hts⟩ (metX0_insert l G H.size (zInv_none pp ss kk) (f := 0) (nn := 256) (by decide) (by decide) (fun _ _ _ => rfl)) (lw_V q29 q31 qs0 q15 q32) ⟨rfl, rfl⟩ (by decide +kernel) ⟨Nat.le_of_ble_eq_true rfl, Nat.le_of_ble_eq_true rfl⟩ hK hP hD hS hA 0 0 rfl rfl rfl rfl rfl hl (Nat.le_of_ble_eq_true rfl) ⟨Nat.zero_le _, Nat.zero_le _⟩ dX0_clear_15 (fun u15 H locs h15 hP hD hS => ?_)
  obtain ⟨c1, p1, s1, k1, t1⟩ := u15
  have hP : va_P G vwCl (wX h0 a1 a2 a3 dA c1 p1 s1 k1 t1) H := hP
  have hD : va_D A (wX h0 a1 a2 a3 dA c1 p1 s1 k1 t1) := hD
  exact zret_muv hx hb hr hlocks dX0_clear_18 (c1, p1, s1, k1, t1) hP hK hD hS h15
set_option maxHeartbeats 4000000 in
set_option maxRecDepth 100000 in
theorem lpX0_nearR {p : Program} {l : Launch} {e : Env} {R : Room} {s : State} {m : MethodId} {args : Array Value} {below : List Frame} {meth : Method} {c : Code} {cells slots : Nat} {Q : State → Prop} {G : va_G} {H : Heap} {locs : List Loc} {h0 a1 a2 a3 : Nat} {dA : ClassId} {cn tn : Nat} {pp ss kk : Nat → Nat} {i x y : Nat} (hx : p.tables.exec = Jvm.exec) (hb : c.code = cX0_takeNear) (hown : s.vm.findClass RX0 = some m.cls) (hts : ∀ w ∈ lw_all, w.before args s = true) (hK : va_K G vwCl [(dA, .int)] s) (hP : va_P G vwCl (wX h0 a1 a2 a3 dA cn pp ss kk tn) H) (hc : cn ≤ 128) (hx9 : x ≤ 256) (hss : ∀ j, j < cn → ss j ≤ 256)
    (kx : ∀ (rt : Nat) (ls : Array Slot), i ≤ rt → rt ≤ cn → (∀ j, i ≤ j → j < rt → ss j < x) → (rt = cn ∨ (rt < cn ∧ x ≤ ss rt)) → lv_has ls 8 [(0, .ref h0), (1, .int (zI ((y : Nat) : Int))), (2, .int (zI ((x : Nat) : Int))), (3, .int (zI ((rt : Nat) : Int))), (4, .int (zI (((i : Nat) : Int) - ((1 : Nat) : Int))))] → W p l e R s m args below meth c H locs cells slots Q (F0 m 54 ls [])) :
    ∀ (d rt : Nat) (ls : Array Slot), cn - rt < d → i ≤ rt → rt ≤ cn → (∀ j, i ≤ j → j < rt → ss j < x) → lv_has ls 8 [(0, .ref h0), (1, .int (zI ((y : Nat) : Int))), (2, .int (zI ((x : Nat) : Int))), (3, .int (zI ((rt : Nat) : Int))), (4, .int (zI (((i : Nat) : Int) - ((1 : Nat) : Int))))] → W p l e R s m args below meth c H locs cells slots Q (F0 m 30 ls []) := by
  intro d
  induction d with
  | zero => intro rt ls h; exact absurd h (Nat.not_lt_zero _)
  | succ d ih =>
    intro rt ls hd h1 h2 h3 hl
    refine lv_iload_n hx hb dX0_takeNear_30 rfl (lv_at hl 3 rfl) ?_
    refine lv_aload_n hx hb dX0_takeNear_31 rfl (lv_at hl 0 rfl) ?_
    refine va_get (D := G) (ci := 0) (v := .int (zI ((cn : Nat) : Int))) (C := RX0) (T := TX0) (N := 5) hx hb hts in_X0 hown hK hP 0 rfl rfl 0 (by decide) (hts _ q41) (fun _ h9 => h9) rfl dX0_takeNear_32 ?_
    refine zr_icmp_ge (tgt := 54) hx hb dX0_takeNear_35 (by decide) (by omega) (fun c35 => ?_) (fun c35 => ?_)
    · exact kx rt ls h1 h2 h3 (by omega) (lv_sub hl [0, 1, 2, 3, 4] rfl)
    · have hs9 := hss rt (by omega)
      refine lv_aload_n hx hb dX0_takeNear_38 rfl (lv_at hl 0 rfl) ?_
      refine va_get (D := G) (ci := 0) (v := .ref a2) (C := RX0) (T := TX0) (N := 5) hx hb hts in_X0 hown hK hP 0 rfl rfl 2 (by decide) (hts _ q43) (fun _ h9 => h9) rfl dX0_takeNear_39 ?_
      refine lv_iload_n hx hb dX0_takeNear_42 rfl (lv_at hl 3 rfl) ?_
      refine zr_iald hx hb hK hP 2 0 rfl rfl rt rfl (by omega) (by decide) dX0_takeNear_43 ?_
      refine lv_iload_n hx hb dX0_takeNear_44 rfl (lv_at hl 2 rfl) ?_
      refine zr_icmp_ge (tgt := 54) hx hb dX0_takeNear_45 (by decide) (by omega) (fun c45 => ?_) (fun c45 => ?_)
      · exact kx rt ls h1 h2 h3 (by omega) (lv_sub hl [0, 1, 2, 3, 4] rfl)
      · refine zr_iinc hx hb ((rt + 1 : Nat) : Int) (lv' := [(3, .int (zI ((rt + 1 : Nat) : Int))), (0, .ref h0), (1, .int (zI ((y : Nat) : Int))), (2, .int (zI ((x : Nat) : Int))), (4, .int (zI (((i : Nat) : Int) - ((1 : Nat) : Int))))]) dX0_takeNear_48 hl (k := 3) rfl (by omega) (by decide) rfl (fun ls hl => ?_)
        refine lv_goto (tgt := 30) hx hb dX0_takeNear_51 (by decide) ?_
        refine ih (rt + 1) ls (by omega) (by omega) (by omega) (fun j g1 g2 => ?_) (lv_sub hl [1, 2, 3, 0, 4] rfl)
        rcases Nat.lt_or_ge j rt with q | q
        · exact h3 j g1 q
        · rw [show j = rt by omega]; omega
set_option maxHeartbeats 4000000 in
set_option maxRecDepth 100000 in
theorem lpX0_nearL {p : Program} {l : Launch} {e : Env} {R : Room} {s : State} {m : MethodId} {args : Array Value} {below : List Frame} {meth : Method} {c : Code} {cells slots : Nat} {Q : State → Prop} {G : va_G} {H : Heap} {locs : List Loc} {h0 a1 a2 a3 : Nat} {dA : ClassId} {cn tn : Nat} {pp ss kk : Nat → Nat} {i x y rt : Nat} (hx : p.tables.exec = Jvm.exec) (hb : c.code = cX0_takeNear) (hown : s.vm.findClass RX0 = some m.cls) (hts : ∀ w ∈ lw_all, w.before args s = true) (hK : va_K G vwCl [(dA, .int)] s) (hP : va_P G vwCl (wX h0 a1 a2 a3 dA cn pp ss kk tn) H) (hc : cn ≤ 128) (hx9 : x ≤ 256) (hss : ∀ j, j < cn → ss j ≤ 256) (hi : i ≤ cn)
    (kx : ∀ (lf : Nat) (ls : Array Slot), lf ≤ i → (∀ j, lf ≤ j → j < i → ss j < x) → (lf = 0 ∨ x ≤ ss (lf - 1)) → lv_has ls 8 [(0, .ref h0), (1, .int (zI ((y : Nat) : Int))), (2, .int (zI ((x : Nat) : Int))), (3, .int (zI ((rt : Nat) : Int))), (4, .int (zI (((lf : Nat) : Int) - ((1 : Nat) : Int))))] → W p l e R s m args below meth c H locs cells slots Q (F0 m 76 ls [])) :
    ∀ (d lf : Nat) (ls : Array Slot), lf < d → lf ≤ i → (∀ j, lf ≤ j → j < i → ss j < x) → lv_has ls 8 [(0, .ref h0), (1, .int (zI ((y : Nat) : Int))), (2, .int (zI ((x : Nat) : Int))), (3, .int (zI ((rt : Nat) : Int))), (4, .int (zI (((lf : Nat) : Int) - ((1 : Nat) : Int))))] → W p l e R s m args below meth c H locs cells slots Q (F0 m 54 ls []) := by
  intro d
  induction d with
  | zero => intro lf ls h; exact absurd h (Nat.not_lt_zero _)
  | succ d ih =>
    intro lf ls hd h1 h3 hl
    refine lv_iload hx hb dX0_takeNear_54 (lv_at hl 4 rfl) ?_
    refine zr_if_lt (tgt := 76) hx hb dX0_takeNear_56 (by decide) (by omega) (fun c56 => ?_) (fun c56 => ?_)
    · exact kx lf ls h1 h3 (Or.inl (by omega)) (lv_sub hl [0, 1, 2, 3, 4] rfl)
    · obtain ⟨w, rfl⟩ : ∃ w, lf = w + 1 := ⟨lf - 1, by omega⟩
      have hs9 := hss w (by omega)
      refine lv_aload_n hx hb dX0_takeNear_59 rfl (lv_at hl 0 rfl) ?_
      refine va_get (D := G) (ci := 0) (v := .ref a2) (C := RX0) (T := TX0) (N := 5) hx hb hts in_X0 hown hK hP 0 rfl rfl 2 (by decide) (hts _ q43) (fun _ h9 => h9) rfl dX0_takeNear_60 ?_
      refine lv_iload hx hb dX0_takeNear_63 (lv_at hl 4 rfl) ?_
      refine zr_iald hx hb hK hP 2 0 rfl rfl w (by omega) (by omega) (by decide) dX0_takeNear_65 ?_
      refine lv_iload_n hx hb dX0_takeNear_66 rfl (lv_at hl 2 rfl) ?_
      refine zr_icmp_ge (tgt := 76) hx hb dX0_takeNear_67 (by decide) (by omega) (fun c67 => ?_) (fun c67 => ?_)
      · exact kx (w + 1) ls h1 h3 (Or.inr (by rw [Nat.add_sub_cancel]; omega)) (lv_sub hl [0, 1, 2, 3, 4] rfl)
      · refine zr_iinc hx hb (((w : Nat) : Int) - ((1 : Nat) : Int)) (lv' := [(4, .int (zI (((w : Nat) : Int) - ((1 : Nat) : Int)))), (0, .ref h0), (1, .int (zI ((y : Nat) : Int))), (2, .int (zI ((x : Nat) : Int))), (3, .int (zI ((rt : Nat) : Int)))]) dX0_takeNear_70 hl (k := 4) rfl (by omega) (by decide) rfl (fun ls hl => ?_)
        refine lv_goto (tgt := 54) hx hb dX0_takeNear_73 (by decide) ?_
        refine ih w ls (by omega) (by omega) (fun j g1 g2 => ?_) (lv_sub hl [1, 2, 3, 4, 0] rfl)
        rcases Nat.eq_or_lt_of_le g1 with q | q
        · rw [← q]; omega
        · exact h3 j q g2
set_option maxHeartbeats 4000000 in
set_option maxRecDepth 100000 in
theorem metX0_takeNear (l : Launch) (G : va_G) (sz : Nat) {h0 a1 a2 a3 : Nat} {dA : ClassId} {F : Nat → Bool} {cn tn : Nat} {pp ss kk : Nat → Nat} (hI : zInv F cn pp ss kk tn) {a b : Int} (ha0 : zIn a) (hb0 : zIn b) : zMU l yX0_takeNear cX0_takeNear 8 (some .int) ({ frames := 3, cells := 0, slots := 0, locals := 74 } : Room) G (wX h0 a1 a2 a3 dA cn pp ss kk tn) [(dA, .int)] [.ref h0, .int (zI a), .int (zI b)] sz (zQi G [(dA, .int)] (wXu h0 a1 a2 a3 dA) (fun r u => ∃ (q : Int) (F9 : Nat → Bool), r = zI q ∧ zsNear F a b q F9 ∧ zIv F9 u)) 0 0 := by
  refine zmu_enter (by decide) (Nat.le_of_ble_eq_true rfl) ?_
  intro p e s m below meth c A H locs hx hb hr hml hown hlocks hnm hts hA hP hK hD hS ls hl
  have hown : s.vm.findClass RX0 = some m.cls := hown
  have hl : lv_has ls 8 [(0, .ref h0), (1, .int (zI a)), (2, .int (zI b))] := hl
  have hc128 := zInv_c hI
  have ht256 := zInv_t hI
  have hss : ∀ j, j < cn → ss j ≤ 256 := fun j hj => by have := hI.1 j hj; omega
  refine lv_iload_n hx hb dX0_takeNear_0 rfl (lv_at hl 1 rfl) ?_
  refine zc_st (n := 1) (As := [.int (zI a)]) (rest := []) ⟨hx, hb, hml, hown, hts⟩ (metX0_badBlock l G ha0) (lw_S q77 q78 q15 q79) ⟨rfl, rfl⟩ (by decide +kernel) ⟨Nat.le_of_ble_eq_true rfl, Nat.le_of_ble_eq_true rfl⟩ hK rfl rfl hl (Nat.le_of_ble_eq_true rfl) ⟨Nat.zero_le _, Nat.zero_le _⟩ dX0_takeNear_1 (fun r1 h1 => ?_)
  rcases h1 with ⟨er1, h1⟩ | ⟨er1, h1⟩
  · subst er1
    refine zr_if_eq (tgt := 9) hx hb dX0_takeNear_4 (by decide) (by omega) (fun c4 => by exfalso; omega) (fun c4 => ?_)
    refine zr_iconst hx hb dX0_takeNear_7 ?_
    exact zret_mui (v := zI (-1)) hx hb hr hlocks dX0_takeNear_8 (cn, pp, ss, kk, tn) hP hK hD hS ⟨-1, F, rfl, Or.inl ⟨h1, rfl, rfl⟩, hI⟩
  · subst er1
    refine zr_if_eq (tgt := 9) hx hb dX0_takeNear_4 (by decide) (by omega) (fun c4 => ?_) (fun c4 => by exfalso; omega)
    obtain ⟨y, rfl⟩ := Int.eq_ofNat_of_zero_le (show 0 ≤ a by omega)
    refine lv_iload_n hx hb dX0_takeNear_9 rfl (lv_at hl 2 rfl) ?_
    refine zc_st (n := 1) (As := [.int (zI b)]) (rest := []) ⟨hx, hb, hml, hown, hts⟩ (metX0_badSize l G hb0) (lw_S q62 q63 q15 q64) ⟨rfl, rfl⟩ (by decide +kernel) ⟨Nat.le_of_ble_eq_true rfl, Nat.le_of_ble_eq_true rfl⟩ hK rfl rfl hl (Nat.le_of_ble_eq_true rfl) ⟨Nat.zero_le _, Nat.zero_le _⟩ dX0_takeNear_10 (fun r10 h10 => ?_)
    rcases h10 with ⟨er10, h10⟩ | ⟨er10, h10⟩
    · subst er10
      refine zr_if_eq (tgt := 19) hx hb dX0_takeNear_13 (by decide) (by omega) (fun c13 => by exfalso; omega) (fun c13 => ?_)
      refine zr_bipush (-2) hx hb dX0_takeNear_16 (by decide) ?_
      exact zret_mui (v := zI (-2)) hx hb hr hlocks dX0_takeNear_18 (cn, pp, ss, kk, tn) hP hK hD hS ⟨-2, F, rfl, Or.inr ⟨y, rfl, by omega, Or.inl ⟨h10, rfl, rfl⟩⟩, hI⟩
    · subst er10
      refine zr_if_eq (tgt := 19) hx hb dX0_takeNear_13 (by decide) (by omega) (fun c13 => ?_) (fun c13 => by exfalso; omega)
      obtain ⟨x, rfl⟩ := Int.eq_ofNat_of_zero_le (show 0 ≤ b by omega)
      refine lv_aload_n hx hb dX0_takeNear_19 rfl (lv_at hl 0 rfl) ?_
      refine lv_iload_n hx hb dX0_takeNear_20 rfl (lv_at hl 1 rfl) ?_
      refine zc_ro (n := 1) (As := [.int (zI ((y : Nat) : Int))]) (rest := []) ⟨hx, hb, hml, hown, hts⟩ (metX0_firstFrom l G hI (b := y) (by omega)) (lw_V q33 q35 qs1 q15 q36) ⟨rfl, rfl⟩ (by decide +kernel) ⟨Nat.le_of_ble_eq_true rfl, Nat.le_of_ble_eq_true rfl⟩ hK hP 0 0 rfl rfl rfl rfl rfl hl (Nat.le_of_ble_eq_true rfl) ⟨Nat.zero_le _, Nat.zero_le _⟩ dX0_takeNear_21 (fun r21 h21 => ?_)
      obtain ⟨i, hi1, rfl, hi2, hi3⟩ := h21
      refine lv_istore_n (lv' := [(3, .int (zI ((i : Nat) : Int))), (0, .ref h0), (1, .int (zI ((y : Nat) : Int))), (2, .int (zI ((x : Nat) : Int)))]) hx hb dX0_takeNear_24 rfl hl (by decide) rfl (fun ls hl => ?_)
      refine lv_iload_n hx hb dX0_takeNear_25 rfl (lv_at hl 0 rfl) ?_
      refine zr_iconstN 1 hx hb dX0_takeNear_26 rfl ?_
      refine zr_isub hx hb dX0_takeNear_27 ?_
      refine lv_istore (lv' := [(4, .int (zI (((i : Nat) : Int) - ((1 : Nat) : Int)))), (3, .int (zI ((i : Nat) : Int))), (0, .ref h0), (1, .int (zI ((y : Nat) : Int))), (2, .int (zI ((x : Nat) : Int)))]) hx hb dX0_takeNear_28 hl (by decide) rfl (fun ls hl => ?_)
      refine lpX0_nearR hx hb hown hts hK (i := i) hP hc128 (by omega) hss (fun rt ls hR1 hR2 hR3 hR4 hl => ?_) (cn + 1) i ls (by omega) (Nat.le_refl _) hi1 (fun j g1 g2 => absurd g2 (by omega)) (lv_sub hl [2, 3, 4, 1, 0] rfl)
      refine lpX0_nearL hx hb hown hts hK (i := i) hP hc128 (by omega) hss hi1 (fun lf ls hL1 hL3 hL4 hl => ?_) (cn + 1) i ls (by omega) (Nat.le_refl _) (fun j g1 g2 => absurd g2 (by omega)) (lv_sub hl [0, 1, 2, 3, 4] rfl)
      refine lv_iload hx hb dX0_takeNear_76 (lv_at hl 4 rfl) ?_
      refine zr_if_ge (tgt := 92) hx hb dX0_takeNear_78 (by decide) (by omega) (fun c78 => ?_) (fun c78 => ?_)
      · obtain ⟨w, rfl⟩ : ∃ w, lf = w + 1 := ⟨lf - 1, by omega⟩
        have e9 : ((((w + 1) : Nat) : Int) - ((1 : Nat) : Int)) = ((w : Nat) : Int) := by omega
        rw [e9] at hl
        have hxw : x ≤ ss w := by have z := hL4; rw [Nat.add_sub_cancel] at z; omega
        have hpw := hI.1 w (by omega)
        refine lv_iload_n hx hb dX0_takeNear_92 rfl (lv_at hl 3 rfl) ?_
        refine lv_aload_n hx hb dX0_takeNear_93 rfl (lv_at hl 0 rfl) ?_
        refine va_get (D := G) (ci := 0) (v := .int (zI ((cn : Nat) : Int))) (C := RX0) (T := TX0) (N := 5) hx hb hts in_X0 hown hK hP 0 rfl rfl 0 (by decide) (hts _ q41) (fun _ h9 => h9) rfl dX0_takeNear_94 ?_
        refine zr_icmp_eq (tgt := 125) hx hb dX0_takeNear_97 (by decide) (by omega) (fun c97 => ?_) (fun c97 => ?_)
        · refine zr_iconstN 1 hx hb dX0_takeNear_125 rfl ?_
          refine lv_goto (tgt := 130) hx hb dX0_takeNear_126 (by decide) ?_
          refine lv_istore (lv' := [(5, .int (zI ((1 : Nat) : Int))), (0, .ref h0), (1, .int (zI ((y : Nat) : Int))), (2, .int (zI ((x : Nat) : Int))), (3, .int (zI ((rt : Nat) : Int))), (4, .int (zI ((w : Nat) : Int)))]) hx hb dX0_takeNear_130 hl (by decide) rfl (fun ls hl => ?_)
          refine lv_iload hx hb dX0_takeNear_132 (lv_at hl 0 rfl) ?_
          refine zr_if_eq (tgt := 142) hx hb dX0_takeNear_134 (by decide) (by omega) (fun c134 => by exfalso; omega) (fun c134 => ?_)
          refine lv_iload hx hb dX0_takeNear_137 (lv_at hl 5 rfl) ?_
          refine lv_goto (tgt := 143) hx hb dX0_takeNear_139 (by decide) ?_
          refine lv_istore (lv' := [(6, .int (zI ((w : Nat) : Int))), (5, .int (zI ((1 : Nat) : Int))), (0, .ref h0), (1, .int (zI ((y : Nat) : Int))), (2, .int (zI ((x : Nat) : Int))), (3, .int (zI ((rt : Nat) : Int))), (4, .int (zI ((w : Nat) : Int)))]) hx hb dX0_takeNear_143 hl (by decide) rfl (fun ls hl => ?_)
          have hch := zy_left hI hL1 hi1 hi2 hi3 hL3 hR3 hxw (by omega)
          have hxs := hch.2.1
          have hrn := zInv_run hI (show w < cn by omega)
          have hic : w < cn := by omega
          refine lv_aload_n hx hb dX0_takeNear_145 rfl (lv_at hl 2 rfl) ?_
          refine va_get (D := G) (ci := 0) (v := .ref a1) (C := RX0) (T := TX0) (N := 5) hx hb hts in_X0 hown hK hP 0 rfl rfl 1 (by decide) (hts _ q42) (fun _ h9 => h9) rfl dX0_takeNear_146 ?_
          refine lv_iload hx hb dX0_takeNear_149 (lv_at hl 0 rfl) ?_
          refine zr_iald hx hb hK hP 1 0 rfl rfl w rfl (by omega) (by decide) dX0_takeNear_151 ?_
          refine lv_istore (lv' := [(7, .int (zI ((pp w : Nat) : Int))), (6, .int (zI ((w : Nat) : Int))), (5, .int (zI ((1 : Nat) : Int))), (0, .ref h0), (1, .int (zI ((y : Nat) : Int))), (2, .int (zI ((x : Nat) : Int))), (3, .int (zI ((rt : Nat) : Int))), (4, .int (zI ((w : Nat) : Int)))]) hx hb dX0_takeNear_152 hl (by decide) rfl (fun ls hl => ?_)
          refine lv_aload_n hx hb dX0_takeNear_154 rfl (lv_at hl 3 rfl) ?_
          refine lv_iload hx hb dX0_takeNear_155 (lv_at hl 1 rfl) ?_
          refine lv_iload hx hb dX0_takeNear_157 (lv_at hl 0 rfl) ?_
          refine lv_iload_n hx hb dX0_takeNear_159 rfl (lv_at hl 5 rfl) ?_
          refine zc_muv (n := 3) (As := [.int (zI ((w : Nat) : Int)), .int (zI ((pp w : Nat) : Int)), .int (zI ((x : Nat) : Int))]) (rest := []) ⟨hx, hb, hml, hown, hts⟩ (metX0_cut l G H.size hI hic (f := pp w) (nn := x) (Nat.le_refl _) (by omega) (by omega)) (lw_V q65 q67 qs3 q15 q68) ⟨rfl, rfl⟩ (by decide +kernel) ⟨Nat.le_of_ble_eq_true rfl, Nat.le_of_ble_eq_true rfl⟩ hK hP hD hS hA 0 0 rfl rfl rfl rfl rfl hl (Nat.le_of_ble_eq_true rfl) ⟨Nat.zero_le _, Nat.zero_le _⟩ dX0_takeNear_160 (fun u160 H locs h160 hP hD hS => ?_)
          obtain ⟨c1, p1, s1, k1, t1⟩ := u160
          have hP : va_P G vwCl (wX h0 a1 a2 a3 dA c1 p1 s1 k1 t1) H := hP
          have hD : va_D A (wX h0 a1 a2 a3 dA c1 p1 s1 k1 t1) := hD
          refine lv_iload hx hb dX0_takeNear_163 (lv_at hl 0 rfl) ?_
          exact zret_mui (v := zI ((pp w : Nat) : Int)) hx hb hr hlocks dX0_takeNear_165 (c1, p1, s1, k1, t1) hP hK hD hS ⟨_, zM F (pp w) x false, rfl, Or.inr ⟨y, rfl, by omega, Or.inr ⟨x, rfl, by omega, by omega, Or.inr ⟨pp w, hch.1, hch.2.1, hch.2.2, rfl, rfl⟩⟩⟩, h160⟩
        · refine lv_iload hx hb dX0_takeNear_100 (lv_at hl 4 rfl) ?_
          refine zr_if_lt (tgt := 129) hx hb dX0_takeNear_102 (by decide) (by omega) (fun c102 => by exfalso; omega) (fun c102 => ?_)
          have hpr := hI.1 rt (by omega)
          refine lv_iload_n hx hb dX0_takeNear_105 rfl (lv_at hl 1 rfl) ?_
          refine lv_aload_n hx hb dX0_takeNear_106 rfl (lv_at hl 0 rfl) ?_
          refine va_get (D := G) (ci := 0) (v := .ref a1) (C := RX0) (T := TX0) (N := 5) hx hb hts in_X0 hown hK hP 0 rfl rfl 1 (by decide) (hts _ q42) (fun _ h9 => h9) rfl dX0_takeNear_107 ?_
          refine lv_iload hx hb dX0_takeNear_110 (lv_at hl 4 rfl) ?_
          refine zr_iald hx hb hK hP 1 0 rfl rfl w rfl (by omega) (by decide) dX0_takeNear_112 ?_
          refine zr_isub hx hb dX0_takeNear_113 ?_
          refine lv_aload_n hx hb dX0_takeNear_114 rfl (lv_at hl 0 rfl) ?_
          refine va_get (D := G) (ci := 0) (v := .ref a1) (C := RX0) (T := TX0) (N := 5) hx hb hts in_X0 hown hK hP 0 rfl rfl 1 (by decide) (hts _ q42) (fun _ h9 => h9) rfl dX0_takeNear_115 ?_
          refine lv_iload_n hx hb dX0_takeNear_118 rfl (lv_at hl 3 rfl) ?_
          refine zr_iald hx hb hK hP 1 0 rfl rfl rt rfl (by omega) (by decide) dX0_takeNear_119 ?_
          refine lv_iload_n hx hb dX0_takeNear_120 rfl (lv_at hl 1 rfl) ?_
          refine zr_isub hx hb dX0_takeNear_121 ?_
          refine zr_icmp_gt (tgt := 129) hx hb dX0_takeNear_122 (by decide) (by omega) (fun c122 => ?_) (fun c122 => ?_)
          · refine zr_iconstN 0 hx hb dX0_takeNear_129 rfl ?_
            refine lv_istore (lv' := [(5, .int (zI ((0 : Nat) : Int))), (0, .ref h0), (1, .int (zI ((y : Nat) : Int))), (2, .int (zI ((x : Nat) : Int))), (3, .int (zI ((rt : Nat) : Int))), (4, .int (zI ((w : Nat) : Int)))]) hx hb dX0_takeNear_130 hl (by decide) rfl (fun ls hl => ?_)
            refine lv_iload hx hb dX0_takeNear_132 (lv_at hl 0 rfl) ?_
            refine zr_if_eq (tgt := 142) hx hb dX0_takeNear_134 (by decide) (by omega) (fun c134 => ?_) (fun c134 => by exfalso; omega)
            refine lv_iload_n hx hb dX0_takeNear_142 rfl (lv_at hl 4 rfl) ?_
            refine lv_istore (lv' := [(6, .int (zI ((rt : Nat) : Int))), (5, .int (zI ((0 : Nat) : Int))), (0, .ref h0), (1, .int (zI ((y : Nat) : Int))), (2, .int (zI ((x : Nat) : Int))), (3, .int (zI ((rt : Nat) : Int))), (4, .int (zI ((w : Nat) : Int)))]) hx hb dX0_takeNear_143 hl (by decide) rfl (fun ls hl => ?_)
            have hch := zy_right hI (lf := w + 1) hL1 hi1 hi2 hi3 hL3 hR3 hR1 (by omega) (by omega) (Or.inr ⟨w, rfl, by omega⟩)
            have hxs := hch.2.1
            have hrn := zInv_run hI (show rt < cn by omega)
            have hic : rt < cn := by omega
            refine lv_aload_n hx hb dX0_takeNear_145 rfl (lv_at hl 2 rfl) ?_
            refine va_get (D := G) (ci := 0) (v := .ref a1) (C := RX0) (T := TX0) (N := 5) hx hb hts in_X0 hown hK hP 0 rfl rfl 1 (by decide) (hts _ q42) (fun _ h9 => h9) rfl dX0_takeNear_146 ?_
            refine lv_iload hx hb dX0_takeNear_149 (lv_at hl 0 rfl) ?_
            refine zr_iald hx hb hK hP 1 0 rfl rfl rt rfl (by omega) (by decide) dX0_takeNear_151 ?_
            refine lv_istore (lv' := [(7, .int (zI ((pp rt : Nat) : Int))), (6, .int (zI ((rt : Nat) : Int))), (5, .int (zI ((0 : Nat) : Int))), (0, .ref h0), (1, .int (zI ((y : Nat) : Int))), (2, .int (zI ((x : Nat) : Int))), (3, .int (zI ((rt : Nat) : Int))), (4, .int (zI ((w : Nat) : Int)))]) hx hb dX0_takeNear_152 hl (by decide) rfl (fun ls hl => ?_)
            refine lv_aload_n hx hb dX0_takeNear_154 rfl (lv_at hl 3 rfl) ?_
            refine lv_iload hx hb dX0_takeNear_155 (lv_at hl 1 rfl) ?_
            refine lv_iload hx hb dX0_takeNear_157 (lv_at hl 0 rfl) ?_
            refine lv_iload_n hx hb dX0_takeNear_159 rfl (lv_at hl 5 rfl) ?_
            refine zc_muv (n := 3) (As := [.int (zI ((rt : Nat) : Int)), .int (zI ((pp rt : Nat) : Int)), .int (zI ((x : Nat) : Int))]) (rest := []) ⟨hx, hb, hml, hown, hts⟩ (metX0_cut l G H.size hI hic (f := pp rt) (nn := x) (Nat.le_refl _) (by omega) (by omega)) (lw_V q65 q67 qs3 q15 q68) ⟨rfl, rfl⟩ (by decide +kernel) ⟨Nat.le_of_ble_eq_true rfl, Nat.le_of_ble_eq_true rfl⟩ hK hP hD hS hA 0 0 rfl rfl rfl rfl rfl hl (Nat.le_of_ble_eq_true rfl) ⟨Nat.zero_le _, Nat.zero_le _⟩ dX0_takeNear_160 (fun u160 H locs h160 hP hD hS => ?_)
            obtain ⟨c1, p1, s1, k1, t1⟩ := u160
            have hP : va_P G vwCl (wX h0 a1 a2 a3 dA c1 p1 s1 k1 t1) H := hP
            have hD : va_D A (wX h0 a1 a2 a3 dA c1 p1 s1 k1 t1) := hD
            refine lv_iload hx hb dX0_takeNear_163 (lv_at hl 0 rfl) ?_
            exact zret_mui (v := zI ((pp rt : Nat) : Int)) hx hb hr hlocks dX0_takeNear_165 (c1, p1, s1, k1, t1) hP hK hD hS ⟨_, zM F (pp rt) x false, rfl, Or.inr ⟨y, rfl, by omega, Or.inr ⟨x, rfl, by omega, by omega, Or.inr ⟨pp rt, hch.1, hch.2.1, hch.2.2, rfl, rfl⟩⟩⟩, h160⟩
          · refine zr_iconstN 1 hx hb dX0_takeNear_125 rfl ?_
            refine lv_goto (tgt := 130) hx hb dX0_takeNear_126 (by decide) ?_
            refine lv_istore (lv' := [(5, .int (zI ((1 : Nat) : Int))), (0, .ref h0), (1, .int (zI ((y : Nat) : Int))), (2, .int (zI ((x : Nat) : Int))), (3, .int (zI ((rt : Nat) : Int))), (4, .int (zI ((w : Nat) : Int)))]) hx hb dX0_takeNear_130 hl (by decide) rfl (fun ls hl => ?_)
            refine lv_iload hx hb dX0_takeNear_132 (lv_at hl 0 rfl) ?_
            refine zr_if_eq (tgt := 142) hx hb dX0_takeNear_134 (by decide) (by omega) (fun c134 => by exfalso; omega) (fun c134 => ?_)
            refine lv_iload hx hb dX0_takeNear_137 (lv_at hl 5 rfl) ?_
            refine lv_goto (tgt := 143) hx hb dX0_takeNear_139 (by decide) ?_
            refine lv_istore (lv' := [(6, .int (zI ((w : Nat) : Int))), (5, .int (zI ((1 : Nat) : Int))), (0, .ref h0), (1, .int (zI ((y : Nat) : Int))), (2, .int (zI ((x : Nat) : Int))), (3, .int (zI ((rt : Nat) : Int))), (4, .int (zI ((w : Nat) : Int)))]) hx hb dX0_takeNear_143 hl (by decide) rfl (fun ls hl => ?_)
            have hch := zy_left hI hL1 hi1 hi2 hi3 hL3 hR3 hxw (by omega)
            have hxs := hch.2.1
            have hrn := zInv_run hI (show w < cn by omega)
            have hic : w < cn := by omega
            refine lv_aload_n hx hb dX0_takeNear_145 rfl (lv_at hl 2 rfl) ?_
            refine va_get (D := G) (ci := 0) (v := .ref a1) (C := RX0) (T := TX0) (N := 5) hx hb hts in_X0 hown hK hP 0 rfl rfl 1 (by decide) (hts _ q42) (fun _ h9 => h9) rfl dX0_takeNear_146 ?_
            refine lv_iload hx hb dX0_takeNear_149 (lv_at hl 0 rfl) ?_
            refine zr_iald hx hb hK hP 1 0 rfl rfl w rfl (by omega) (by decide) dX0_takeNear_151 ?_
            refine lv_istore (lv' := [(7, .int (zI ((pp w : Nat) : Int))), (6, .int (zI ((w : Nat) : Int))), (5, .int (zI ((1 : Nat) : Int))), (0, .ref h0), (1, .int (zI ((y : Nat) : Int))), (2, .int (zI ((x : Nat) : Int))), (3, .int (zI ((rt : Nat) : Int))), (4, .int (zI ((w : Nat) : Int)))]) hx hb dX0_takeNear_152 hl (by decide) rfl (fun ls hl => ?_)
            refine lv_aload_n hx hb dX0_takeNear_154 rfl (lv_at hl 3 rfl) ?_
            refine lv_iload hx hb dX0_takeNear_155 (lv_at hl 1 rfl) ?_
            refine lv_iload hx hb dX0_takeNear_157 (lv_at hl 0 rfl) ?_
            refine lv_iload_n hx hb dX0_takeNear_159 rfl (lv_at hl 5 rfl) ?_
            refine zc_muv (n := 3) (As := [.int (zI ((w : Nat) : Int)), .int (zI ((pp w : Nat) : Int)), .int (zI ((x : Nat) : Int))]) (rest := []) ⟨hx, hb, hml, hown, hts⟩ (metX0_cut l G H.size hI hic (f := pp w) (nn := x) (Nat.le_refl _) (by omega) (by omega)) (lw_V q65 q67 qs3 q15 q68) ⟨rfl, rfl⟩ (by decide +kernel) ⟨Nat.le_of_ble_eq_true rfl, Nat.le_of_ble_eq_true rfl⟩ hK hP hD hS hA 0 0 rfl rfl rfl rfl rfl hl (Nat.le_of_ble_eq_true rfl) ⟨Nat.zero_le _, Nat.zero_le _⟩ dX0_takeNear_160 (fun u160 H locs h160 hP hD hS => ?_)
            obtain ⟨c1, p1, s1, k1, t1⟩ := u160
            have hP : va_P G vwCl (wX h0 a1 a2 a3 dA c1 p1 s1 k1 t1) H := hP
            have hD : va_D A (wX h0 a1 a2 a3 dA c1 p1 s1 k1 t1) := hD
            refine lv_iload hx hb dX0_takeNear_163 (lv_at hl 0 rfl) ?_
            exact zret_mui (v := zI ((pp w : Nat) : Int)) hx hb hr hlocks dX0_takeNear_165 (c1, p1, s1, k1, t1) hP hK hD hS ⟨_, zM F (pp w) x false, rfl, Or.inr ⟨y, rfl, by omega, Or.inr ⟨x, rfl, by omega, by omega, Or.inr ⟨pp w, hch.1, hch.2.1, hch.2.2, rfl, rfl⟩⟩⟩, h160⟩
      · refine lv_iload_n hx hb dX0_takeNear_81 rfl (lv_at hl 3 rfl) ?_
        refine lv_aload_n hx hb dX0_takeNear_82 rfl (lv_at hl 0 rfl) ?_
        refine va_get (D := G) (ci := 0) (v := .int (zI ((cn : Nat) : Int))) (C := RX0) (T := TX0) (N := 5) hx hb hts in_X0 hown hK hP 0 rfl rfl 0 (by decide) (hts _ q41) (fun _ h9 => h9) rfl dX0_takeNear_83 ?_
        refine zr_icmp_ne (tgt := 92) hx hb dX0_takeNear_86 (by decide) (by omega) (fun c86 => ?_) (fun c86 => ?_)
        · have hpr := hI.1 rt (by omega)
          refine lv_iload_n hx hb dX0_takeNear_92 rfl (lv_at hl 3 rfl) ?_
          refine lv_aload_n hx hb dX0_takeNear_93 rfl (lv_at hl 0 rfl) ?_
          refine va_get (D := G) (ci := 0) (v := .int (zI ((cn : Nat) : Int))) (C := RX0) (T := TX0) (N := 5) hx hb hts in_X0 hown hK hP 0 rfl rfl 0 (by decide) (hts _ q41) (fun _ h9 => h9) rfl dX0_takeNear_94 ?_
          refine zr_icmp_eq (tgt := 125) hx hb dX0_takeNear_97 (by decide) (by omega) (fun c97 => by exfalso; omega) (fun c97 => ?_)
          refine lv_iload hx hb dX0_takeNear_100 (lv_at hl 4 rfl) ?_
          refine zr_if_lt (tgt := 129) hx hb dX0_takeNear_102 (by decide) (by omega) (fun c102 => ?_) (fun c102 => by exfalso; omega)
          refine zr_iconstN 0 hx hb dX0_takeNear_129 rfl ?_
          refine lv_istore (lv' := [(5, .int (zI ((0 : Nat) : Int))), (0, .ref h0), (1, .int (zI ((y : Nat) : Int))), (2, .int (zI ((x : Nat) : Int))), (3, .int (zI ((rt : Nat) : Int))), (4, .int (zI (((lf : Nat) : Int) - ((1 : Nat) : Int))))]) hx hb dX0_takeNear_130 hl (by decide) rfl (fun ls hl => ?_)
          refine lv_iload hx hb dX0_takeNear_132 (lv_at hl 0 rfl) ?_
          refine zr_if_eq (tgt := 142) hx hb dX0_takeNear_134 (by decide) (by omega) (fun c134 => ?_) (fun c134 => by exfalso; omega)
          refine lv_iload_n hx hb dX0_takeNear_142 rfl (lv_at hl 4 rfl) ?_
          refine lv_istore (lv' := [(6, .int (zI ((rt : Nat) : Int))), (5, .int (zI ((0 : Nat) : Int))), (0, .ref h0), (1, .int (zI ((y : Nat) : Int))), (2, .int (zI ((x : Nat) : Int))), (3, .int (zI ((rt : Nat) : Int))), (4, .int (zI (((lf : Nat) : Int) - ((1 : Nat) : Int))))]) hx hb dX0_takeNear_143 hl (by decide) rfl (fun ls hl => ?_)
          have hch := zy_right hI (lf := lf) hL1 hi1 hi2 hi3 hL3 hR3 hR1 (by omega) (by omega) (Or.inl (by omega))
          have hxs := hch.2.1
          have hrn := zInv_run hI (show rt < cn by omega)
          have hic : rt < cn := by omega
          refine lv_aload_n hx hb dX0_takeNear_145 rfl (lv_at hl 2 rfl) ?_
          refine va_get (D := G) (ci := 0) (v := .ref a1) (C := RX0) (T := TX0) (N := 5) hx hb hts in_X0 hown hK hP 0 rfl rfl 1 (by decide) (hts _ q42) (fun _ h9 => h9) rfl dX0_takeNear_146 ?_
          refine lv_iload hx hb dX0_takeNear_149 (lv_at hl 0 rfl) ?_
          refine zr_iald hx hb hK hP 1 0 rfl rfl rt rfl (by omega) (by decide) dX0_takeNear_151 ?_
          refine lv_istore (lv' := [(7, .int (zI ((pp rt : Nat) : Int))), (6, .int (zI ((rt : Nat) : Int))), (5, .int (zI ((0 : Nat) : Int))), (0, .ref h0), (1, .int (zI ((y : Nat) : Int))), (2, .int (zI ((x : Nat) : Int))), (3, .int (zI ((rt : Nat) : Int))), (4, .int (zI (((lf : Nat) : Int) - ((1 : Nat) : Int))))]) hx hb dX0_takeNear_152 hl (by decide) rfl (fun ls hl => ?_)
          refine lv_aload_n hx hb dX0_takeNear_154 rfl (lv_at hl 3 rfl) ?_
          refine lv_iload hx hb dX0_takeNear_155 (lv_at hl 1 rfl) ?_
          refine lv_iload hx hb dX0_takeNear_157 (lv_at hl 0 rfl) ?_
          refine lv_iload_n hx hb dX0_takeNear_159 rfl (lv_at hl 5 rfl) ?_
          refine zc_muv (n := 3) (As := [.int (zI ((rt : Nat) : Int)), .int (zI ((pp rt : Nat) : Int)), .int (zI ((x : Nat) : Int))]) (rest := []) ⟨hx, hb, hml, hown, hts⟩ (metX0_cut l G H.size hI hic (f := pp rt) (nn := x) (Nat.le_refl _) (by omega) (by omega)) (lw_V q65 q67 qs3 q15 q68) ⟨rfl, rfl⟩ (by decide +kernel) ⟨Nat.le_of_ble_eq_true rfl, Nat.le_of_ble_eq_true rfl⟩ hK hP hD hS hA 0 0 rfl rfl rfl rfl rfl hl (Nat.le_of_ble_eq_true rfl) ⟨Nat.zero_le _, Nat.zero_le _⟩ dX0_takeNear_160 (fun u160 H locs h160 hP hD hS => ?_)
          obtain ⟨c1, p1, s1, k1, t1⟩ := u160
          have hP : va_P G vwCl (wX h0 a1 a2 a3 dA c1 p1 s1 k1 t1) H := hP
          have hD : va_D A (wX h0 a1 a2 a3 dA c1 p1 s1 k1 t1) := hD
          refine lv_iload hx hb dX0_takeNear_163 (lv_at hl 0 rfl) ?_
          exact zret_mui (v := zI ((pp rt : Nat) : Int)) hx hb hr hlocks dX0_takeNear_165 (c1, p1, s1, k1, t1) hP hK hD hS ⟨_, zM F (pp rt) x false, rfl, Or.inr ⟨y, rfl, by omega, Or.inr ⟨x, rfl, by omega, by omega, Or.inr ⟨pp rt, hch.1, hch.2.1, hch.2.2, rfl, rfl⟩⟩⟩, h160⟩
        · refine zr_bipush (-3) hx hb dX0_takeNear_89 (by decide) ?_
          exact zret_mui (v := zI (-3)) hx hb hr hlocks dX0_takeNear_91 (cn, pp, ss, kk, tn) hP hK hD hS ⟨-3, F, rfl, Or.inr ⟨y, rfl, by omega, Or.inr ⟨x, rfl, by omega, by omega, Or.inl ⟨zy_no hI (i := i) (fun j _ g => hL3 j (by omega) g) (fun j g1 g2 => hR3 j g1 (by omega)), rfl, rfl⟩⟩⟩, hI⟩
set_option maxHeartbeats 4000000 in
set_option maxRecDepth 100000 in
theorem jX0_give {p : Program} {l : Launch} {e : Env} {s : State} {m : MethodId} {args : Array Value} {below : List Frame} {meth : Method} {c : Code} {G : va_G} {A : Nat → Prop} {h0 a1 a2 a3 : Nat} {dA : ClassId} {F : Nat → Bool} {cn tn : Nat} {pp ss kk : Nat → Nat} (hI : zInv F cn pp ss kk tn) {i x en : Nat} {R : Room} {post : Int32 → zSt → Prop} (hx : p.tables.exec = Jvm.exec) (hb : c.code = cX0_give) (hown : s.vm.findClass RX0 = some m.cls) (hts : ∀ w ∈ lw_all, w.before args s = true) (hK : va_K G vwCl [(dA, .int)] s) (hml : c.maxLocals = 7) (hRf : 2 ≤ R.frames) (hRl : 49 ≤ R.locals) (hr : meth.sig.returnType = some .int) (hlocks : meth.locks = false) (hA : ∀ q, s.heap.size ≤ q → A q)
    (hxe : x < en) (hen : en ≤ 256) (hfr : ∀ b, x ≤ b → b ≤ en → F b = false) (hi1 : i ≤ cn) (hi2 : ∀ j, j < i → pp j < x) (hi3 : ∀ j, i ≤ j → j < cn → x ≤ pp j)
    (hpost : ∀ (q : Int) (u : zSt), zIv (zM F x (en - x) true) u → zsSz (zM F x (en - x) true) x q → post (zI q) u)
    {H : Heap} {locs : List Loc} {ls : Array Slot} (hP : va_P G vwCl (wX h0 a1 a2 a3 dA cn pp ss kk tn) H) (hD : va_D A (wX h0 a1 a2 a3 dA cn pp ss kk tn)) (hS : va_S A s.heap H locs) (hl : lv_has ls 7 [(0, .ref h0), (1, .int (zI ((x : Nat) : Int))), (4, .int (zI (((i : Nat) : Int) - ((1 : Nat) : Int)))), (5, .int (zI ((x : Nat) : Int))), (6, .int (zI ((en : Nat) : Int)))]) : W p l e R s m args below meth c H locs 0 0 (MQ below (zQi G [(dA, .int)] (wXu h0 a1 a2 a3 dA) post A) args s 0 0 A) (F0 m 124 ls []) := by
  have hc128 := zInv_c hI
  have ht256 := zInv_t hI
  refine lv_iload hx hb dX0_give_124 (lv_at hl 2 rfl) ?_
  refine zr_if_lt (tgt := 163) hx hb dX0_give_126 (by decide) (by omega) (fun c126 => ?_) (fun c126 => ?_)
  · have hprev := zg_prevA hI (x := x) (fun j _ g => hi3 j (by omega) g)
    refine lv_aload_n hx hb dX0_give_163 rfl (lv_at hl 0 rfl) ?_
    refine lv_iload hx hb dX0_give_164 (lv_at hl 3 rfl) ?_
    refine lv_iload hx hb dX0_give_166 (lv_at hl 4 rfl) ?_
    refine lv_iload hx hb dX0_give_168 (lv_at hl 3 rfl) ?_
    refine zr_isubN hx hb (by omega) dX0_give_170 ?_
    refine zc_muv (n := 2) (As := [.int (zI ((x : Nat) : Int)), .int (zI ((en - x : Nat) : Int))]) (rest := []) ⟨hx, hb, hml, hown, hts⟩ (metX0_insert l G H.size hI (f := x) (nn := en - x) (by omega) (by omega) (zg_sepA hfr hprev hxe)) (lw_V q29 q31 qs0 q15 q32) ⟨rfl, rfl⟩ (by decide +kernel) ⟨Nat.le_trans (by decide) hRf, Nat.le_trans (by decide) hRl⟩ hK hP hD hS hA 0 0 rfl rfl rfl rfl rfl hl (Nat.le_of_ble_eq_true rfl) ⟨Nat.zero_le _, Nat.zero_le _⟩ dX0_give_171 (fun u171 H locs h171 hP hD hS => ?_)
    obtain ⟨c2, p2, s2, k2, t2⟩ := u171
    have hP : va_P G vwCl (wX h0 a1 a2 a3 dA c2 p2 s2 k2 t2) H := hP
    have hD : va_D A (wX h0 a1 a2 a3 dA c2 p2 s2 k2 t2) := hD
    refine lv_iload hx hb dX0_give_174 (lv_at hl 4 rfl) ?_
    refine lv_iload hx hb dX0_give_176 (lv_at hl 3 rfl) ?_
    refine zr_isubN hx hb (by omega) dX0_give_178 ?_
    exact zret_mui (v := zI ((en - x : Nat) : Int)) hx hb hr hlocks dX0_give_179 (c2, p2, s2, k2, t2) hP hK hD hS (hpost _ _ h171 (zg_szA hfr hprev hxe))
  · obtain ⟨w, rfl⟩ : ∃ w, i = w + 1 := ⟨i - 1, by omega⟩
    have e9 : ((((w + 1) : Nat) : Int) - ((1 : Nat) : Int)) = ((w : Nat) : Int) := by omega
    rw [e9] at hl
    have hps := hI.1 w (by omega)
    have hpx := hi2 w (by omega)
    refine lv_aload_n hx hb dX0_give_129 rfl (lv_at hl 0 rfl) ?_
    refine va_get (D := G) (ci := 0) (v := .ref a1) (C := RX0) (T := TX0) (N := 5) hx hb hts in_X0 hown hK hP 0 rfl rfl 1 (by decide) (hts _ q42) (fun _ h9 => h9) rfl dX0_give_130 ?_
    refine lv_iload hx hb dX0_give_133 (lv_at hl 2 rfl) ?_
    refine zr_iald hx hb hK hP 1 0 rfl rfl w rfl (by omega) (by decide) dX0_give_135 ?_
    refine lv_aload_n hx hb dX0_give_136 rfl (lv_at hl 0 rfl) ?_
    refine va_get (D := G) (ci := 0) (v := .ref a2) (C := RX0) (T := TX0) (N := 5) hx hb hts in_X0 hown hK hP 0 rfl rfl 2 (by decide) (hts _ q43) (fun _ h9 => h9) rfl dX0_give_137 ?_
    refine lv_iload hx hb dX0_give_140 (lv_at hl 2 rfl) ?_
    refine zr_iald hx hb hK hP 2 0 rfl rfl w rfl (by omega) (by decide) dX0_give_142 ?_
    refine zr_iaddN hx hb dX0_give_143 ?_
    refine lv_iload_n hx hb dX0_give_144 rfl (lv_at hl 1 rfl) ?_
    refine zr_icmp_ne (tgt := 163) hx hb dX0_give_145 (by decide) (by omega) (fun c145 => ?_) (fun c145 => ?_)
    · have hprev := zg_prevB hI hi1 hi2 hi3 (hfr x (Nat.le_refl _) (by omega)) (by omega)
      refine lv_aload_n hx hb dX0_give_163 rfl (lv_at hl 0 rfl) ?_
      refine lv_iload hx hb dX0_give_164 (lv_at hl 3 rfl) ?_
      refine lv_iload hx hb dX0_give_166 (lv_at hl 4 rfl) ?_
      refine lv_iload hx hb dX0_give_168 (lv_at hl 3 rfl) ?_
      refine zr_isubN hx hb (by omega) dX0_give_170 ?_
      refine zc_muv (n := 2) (As := [.int (zI ((x : Nat) : Int)), .int (zI ((en - x : Nat) : Int))]) (rest := []) ⟨hx, hb, hml, hown, hts⟩ (metX0_insert l G H.size hI (f := x) (nn := en - x) (by omega) (by omega) (zg_sepA hfr hprev hxe)) (lw_V q29 q31 qs0 q15 q32) ⟨rfl, rfl⟩ (by decide +kernel) ⟨Nat.le_trans (by decide) hRf, Nat.le_trans (by decide) hRl⟩ hK hP hD hS hA 0 0 rfl rfl rfl rfl rfl hl (Nat.le_of_ble_eq_true rfl) ⟨Nat.zero_le _, Nat.zero_le _⟩ dX0_give_171 (fun u171 H locs h171 hP hD hS => ?_)
      obtain ⟨c2, p2, s2, k2, t2⟩ := u171
      have hP : va_P G vwCl (wX h0 a1 a2 a3 dA c2 p2 s2 k2 t2) H := hP
      have hD : va_D A (wX h0 a1 a2 a3 dA c2 p2 s2 k2 t2) := hD
      refine lv_iload hx hb dX0_give_174 (lv_at hl 4 rfl) ?_
      refine lv_iload hx hb dX0_give_176 (lv_at hl 3 rfl) ?_
      refine zr_isubN hx hb (by omega) dX0_give_178 ?_
      exact zret_mui (v := zI ((en - x : Nat) : Int)) hx hb hr hlocks dX0_give_179 (c2, p2, s2, k2, t2) hP hK hD hS (hpost _ _ h171 (zg_szA hfr hprev hxe))
    · refine lv_aload_n hx hb dX0_give_148 rfl (lv_at hl 0 rfl) ?_
      refine va_get (D := G) (ci := 0) (v := .ref a1) (C := RX0) (T := TX0) (N := 5) hx hb hts in_X0 hown hK hP 0 rfl rfl 1 (by decide) (hts _ q42) (fun _ h9 => h9) rfl dX0_give_149 ?_
      refine lv_iload hx hb dX0_give_152 (lv_at hl 2 rfl) ?_
      refine zr_iald hx hb hK hP 1 0 rfl rfl w rfl (by omega) (by decide) dX0_give_154 ?_
      refine lv_istore (lv' := [(5, .int (zI ((pp w : Nat) : Int))), (0, .ref h0), (1, .int (zI ((x : Nat) : Int))), (4, .int (zI ((w : Nat) : Int))), (6, .int (zI ((en : Nat) : Int)))]) hx hb dX0_give_155 hl (by decide) rfl (fun ls hl => ?_)
      refine lv_aload_n hx hb dX0_give_157 rfl (lv_at hl 1 rfl) ?_
      refine lv_iload hx hb dX0_give_158 (lv_at hl 3 rfl) ?_
      refine zc_muv (n := 1) (As := [.int (zI ((w : Nat) : Int))]) (rest := []) ⟨hx, hb, hml, hown, hts⟩ (metX0_remove l G H.size hI (i := w) (by omega)) (lw_V q69 q71 qs4 q15 q72) ⟨rfl, rfl⟩ (by decide +kernel) ⟨Nat.le_trans (by decide) hRf, Nat.le_trans (by decide) hRl⟩ hK hP hD hS hA 0 0 rfl rfl rfl rfl rfl hl (Nat.le_of_ble_eq_true rfl) ⟨Nat.zero_le _, Nat.zero_le _⟩ dX0_give_160 (fun u160 H locs h160 hP hD hS => ?_)
      obtain ⟨c1, p1, s1, k1, t1⟩ := u160
      have hP : va_P G vwCl (wX h0 a1 a2 a3 dA c1 p1 s1 k1 t1) H := hP
      have hD : va_D A (wX h0 a1 a2 a3 dA c1 p1 s1 k1 t1) := hD
      refine lv_aload_n hx hb dX0_give_163 rfl (lv_at hl 1 rfl) ?_
      refine lv_iload hx hb dX0_give_164 (lv_at hl 0 rfl) ?_
      refine lv_iload hx hb dX0_give_166 (lv_at hl 4 rfl) ?_
      refine lv_iload hx hb dX0_give_168 (lv_at hl 0 rfl) ?_
      refine zr_isubN hx hb (by omega) dX0_give_170 ?_
      refine zc_muv (n := 2) (As := [.int (zI ((pp w : Nat) : Int)), .int (zI ((en - (pp w) : Nat) : Int))]) (rest := []) ⟨hx, hb, hml, hown, hts⟩ (metX0_insert l G H.size h160.1 (f := pp w) (nn := en - pp w) (by omega) (by omega) (zg_sepC hI (by omega) hfr hxe (by omega))) (lw_V q29 q31 qs0 q15 q32) ⟨rfl, rfl⟩ (by decide +kernel) ⟨Nat.le_trans (by decide) hRf, Nat.le_trans (by decide) hRl⟩ hK hP hD hS hA 0 0 rfl rfl rfl rfl rfl hl (Nat.le_of_ble_eq_true rfl) ⟨Nat.zero_le _, Nat.zero_le _⟩ dX0_give_171 (fun u171 H locs h171 hP hD hS => ?_)
      obtain ⟨c2, p2, s2, k2, t2⟩ := u171
      have hP : va_P G vwCl (wX h0 a1 a2 a3 dA c2 p2 s2 k2 t2) H := hP
      have hD : va_D A (wX h0 a1 a2 a3 dA c2 p2 s2 k2 t2) := hD
      refine lv_iload hx hb dX0_give_174 (lv_at hl 4 rfl) ?_
      refine lv_iload hx hb dX0_give_176 (lv_at hl 0 rfl) ?_
      refine zr_isubN hx hb (by omega) dX0_give_178 ?_
      exact zret_mui (v := zI ((en - (pp w) : Nat) : Int)) hx hb hr hlocks dX0_give_179 (c2, p2, s2, k2, t2) hP hK hD hS (hpost _ _ (by rw [← zg_eqC hI (show w < cn by omega) hxe (by omega)]; exact h171) (zg_szC hI (by omega) hfr hxe (by omega)))
set_option maxHeartbeats 4000000 in
set_option maxRecDepth 100000 in
theorem metX0_give (l : Launch) (G : va_G) (sz : Nat) {h0 a1 a2 a3 : Nat} {dA : ClassId} {F : Nat → Bool} {cn tn : Nat} {pp ss kk : Nat → Nat} (hI : zInv F cn pp ss kk tn) {a b : Int} (ha0 : zIn a) (hb0 : zIn b) : zMU l yX0_give cX0_give 7 (some .int) ({ frames := 2, cells := 0, slots := 0, locals := 49 } : Room) G (wX h0 a1 a2 a3 dA cn pp ss kk tn) [(dA, .int)] [.ref h0, .int (zI a), .int (zI b)] sz (zQi G [(dA, .int)] (wXu h0 a1 a2 a3 dA) (fun r u => ∃ (q : Int) (F9 : Nat → Bool), r = zI q ∧ zsGive F a b q F9 ∧ zIv F9 u)) 0 0 := by
  refine zmu_enter (by decide) (Nat.le_of_ble_eq_true rfl) ?_
  intro p e s m below meth c A H locs hx hb hr hml hown hlocks hnm hts hA hP hK hD hS ls hl
  have hown : s.vm.findClass RX0 = some m.cls := hown
  have hl : lv_has ls 7 [(0, .ref h0), (1, .int (zI a)), (2, .int (zI b))] := hl
  have hc128 := zInv_c hI
  have ht256 := zInv_t hI
  refine lv_iload_n hx hb dX0_give_0 rfl (lv_at hl 1 rfl) ?_
  refine zc_st (n := 1) (As := [.int (zI a)]) (rest := []) ⟨hx, hb, hml, hown, hts⟩ (metX0_badBlock l G ha0) (lw_S q77 q78 q15 q79) ⟨rfl, rfl⟩ (by decide +kernel) ⟨Nat.le_of_ble_eq_true rfl, Nat.le_of_ble_eq_true rfl⟩ hK rfl rfl hl (Nat.le_of_ble_eq_true rfl) ⟨Nat.zero_le _, Nat.zero_le _⟩ dX0_give_1 (fun r1 h1 => ?_)
  rcases h1 with ⟨er1, h1⟩ | ⟨er1, h1⟩
  · subst er1
    refine zr_if_eq (tgt := 9) hx hb dX0_give_4 (by decide) (by omega) (fun c4 => by exfalso; omega) (fun c4 => ?_)
    refine zr_iconst hx hb dX0_give_7 ?_
    exact zret_mui (v := zI (-1)) hx hb hr hlocks dX0_give_8 (cn, pp, ss, kk, tn) hP hK hD hS ⟨-1, F, rfl, Or.inl ⟨h1, rfl, rfl⟩, hI⟩
  · subst er1
    refine zr_if_eq (tgt := 9) hx hb dX0_give_4 (by decide) (by omega) (fun c4 => ?_) (fun c4 => by exfalso; omega)
    obtain ⟨x, rfl⟩ := Int.eq_ofNat_of_zero_le (show 0 ≤ a by omega)
    refine lv_iload_n hx hb dX0_give_9 rfl (lv_at hl 1 rfl) ?_
    refine lv_iload_n hx hb dX0_give_10 rfl (lv_at hl 2 rfl) ?_
    refine zc_st (n := 2) (As := [.int (zI ((x : Nat) : Int)), .int (zI b)]) (rest := []) ⟨hx, hb, hml, hown, hts⟩ (metX0_beyond l G (f := ((x : Nat) : Int)) (by omega) hb0) (lw_S q84 q85 q15 q86) ⟨rfl, rfl⟩ (by decide +kernel) ⟨Nat.le_of_ble_eq_true rfl, Nat.le_of_ble_eq_true rfl⟩ hK rfl rfl hl (Nat.le_of_ble_eq_true rfl) ⟨Nat.zero_le _, Nat.zero_le _⟩ dX0_give_11 (fun r11 h11 => ?_)
    rcases h11 with ⟨er11, h11⟩ | ⟨er11, h11⟩
    · subst er11
      refine zr_if_eq (tgt := 20) hx hb dX0_give_14 (by decide) (by omega) (fun c14 => by exfalso; omega) (fun c14 => ?_)
      refine zr_bipush (-2) hx hb dX0_give_17 (by decide) ?_
      exact zret_mui (v := zI (-2)) hx hb hr hlocks dX0_give_19 (cn, pp, ss, kk, tn) hP hK hD hS ⟨-2, F, rfl, Or.inr ⟨x, rfl, by omega, Or.inl ⟨h11, rfl, rfl⟩⟩, hI⟩
    · subst er11
      refine zr_if_eq (tgt := 20) hx hb dX0_give_14 (by decide) (by omega) (fun c14 => ?_) (fun c14 => by exfalso; omega)
      obtain ⟨j, rfl⟩ := Int.eq_ofNat_of_zero_le (show 0 ≤ b by omega)
      refine lv_aload_n hx hb dX0_give_20 rfl (lv_at hl 0 rfl) ?_
      refine lv_iload_n hx hb dX0_give_21 rfl (lv_at hl 1 rfl) ?_
      refine zc_ro (n := 1) (As := [.int (zI ((x : Nat) : Int))]) (rest := []) ⟨hx, hb, hml, hown, hts⟩ (metX0_firstFrom l G hI (b := x) (by omega)) (lw_V q33 q35 qs1 q15 q36) ⟨rfl, rfl⟩ (by decide +kernel) ⟨Nat.le_of_ble_eq_true rfl, Nat.le_of_ble_eq_true rfl⟩ hK hP 0 0 rfl rfl rfl rfl rfl hl (Nat.le_of_ble_eq_true rfl) ⟨Nat.zero_le _, Nat.zero_le _⟩ dX0_give_22 (fun r22 h22 => ?_)
      obtain ⟨i, hi1, rfl, hi2, hi3⟩ := h22
      refine lv_istore_n (lv' := [(3, .int (zI ((i : Nat) : Int))), (0, .ref h0), (1, .int (zI ((x : Nat) : Int))), (2, .int (zI ((j : Nat) : Int)))]) hx hb dX0_give_25 rfl hl (by decide) rfl (fun ls hl => ?_)
      refine lv_iload_n hx hb dX0_give_26 rfl (lv_at hl 0 rfl) ?_
      refine zr_iconstN 1 hx hb dX0_give_27 rfl ?_
      refine zr_isub hx hb dX0_give_28 ?_
      refine lv_istore (lv' := [(4, .int (zI (((i : Nat) : Int) - ((1 : Nat) : Int)))), (3, .int (zI ((i : Nat) : Int))), (0, .ref h0), (1, .int (zI ((x : Nat) : Int))), (2, .int (zI ((j : Nat) : Int)))]) hx hb dX0_give_29 hl (by decide) rfl (fun ls hl => ?_)
      refine lv_iload_n hx hb dX0_give_31 rfl (lv_at hl 1 rfl) ?_
      refine lv_aload_n hx hb dX0_give_32 rfl (lv_at hl 2 rfl) ?_
      refine va_get (D := G) (ci := 0) (v := .int (zI ((cn : Nat) : Int))) (C := RX0) (T := TX0) (N := 5) hx hb hts in_X0 hown hK hP 0 rfl rfl 0 (by decide) (hts _ q41) (fun _ h9 => h9) rfl dX0_give_33 ?_
      refine zr_icmp_ge (tgt := 54) hx hb dX0_give_36 (by decide) (by omega) (fun c36 => ?_) (fun c36 => ?_)
      · refine lv_iload hx hb dX0_give_54 (lv_at hl 0 rfl) ?_
        refine zr_if_lt (tgt := 81) hx hb dX0_give_56 (by decide) (by omega) (fun c56 => ?_) (fun c56 => ?_)
        · have hB : i = 0 ∨ ∃ w9, i = w9 + 1 ∧ w9 < cn ∧ pp w9 + ss w9 ≤ x := Or.inl (by omega)
          have hnf := zg_nofree hI hi2 hi3 hB (y := x + j) (by omega)
          refine lv_iload_n hx hb dX0_give_81 rfl (lv_at hl 3 rfl) ?_
          refine lv_istore (lv' := [(5, .int (zI ((x : Nat) : Int))), (4, .int (zI (((i : Nat) : Int) - ((1 : Nat) : Int)))), (3, .int (zI ((i : Nat) : Int))), (0, .ref h0), (1, .int (zI ((x : Nat) : Int))), (2, .int (zI ((j : Nat) : Int)))]) hx hb dX0_give_82 hl (by decide) rfl (fun ls hl => ?_)
          refine lv_iload_n hx hb dX0_give_84 rfl (lv_at hl 4 rfl) ?_
          refine lv_iload_n hx hb dX0_give_85 rfl (lv_at hl 5 rfl) ?_
          refine zr_iaddN hx hb dX0_give_86 ?_
          refine lv_istore (lv' := [(6, .int (zI ((x + j : Nat) : Int))), (5, .int (zI ((x : Nat) : Int))), (4, .int (zI (((i : Nat) : Int) - ((1 : Nat) : Int)))), (3, .int (zI ((i : Nat) : Int))), (0, .ref h0), (1, .int (zI ((x : Nat) : Int))), (2, .int (zI ((j : Nat) : Int)))]) hx hb dX0_give_87 hl (by decide) rfl (fun ls hl => ?_)
          refine lv_iload_n hx hb dX0_give_89 rfl (lv_at hl 3 rfl) ?_
          refine lv_aload_n hx hb dX0_give_90 rfl (lv_at hl 4 rfl) ?_
          refine va_get (D := G) (ci := 0) (v := .int (zI ((cn : Nat) : Int))) (C := RX0) (T := TX0) (N := 5) hx hb hts in_X0 hown hK hP 0 rfl rfl 0 (by decide) (hts _ q41) (fun _ h9 => h9) rfl dX0_give_91 ?_
          refine zr_icmp_ge (tgt := 124) hx hb dX0_give_94 (by decide) (by omega) (fun c94 => ?_) (fun c94 => by exfalso; omega)
          exact jX0_give hI (i := i) (x := x) (en := x + j) hx hb hown hts hK hml (Nat.le_of_ble_eq_true rfl) (Nat.le_of_ble_eq_true rfl) hr hlocks hA (by omega) (by omega) (fun b9 g1 g2 => zg_nofree hI hi2 hi3 hB (y := x + j + 1) (by omega) b9 g1 (by omega)) hi1 hi2 hi3 (fun q u z1 z2 => ⟨q, zM F x j true, rfl, Or.inr ⟨x, rfl, by omega, Or.inr ⟨j, rfl, by omega, by omega, Or.inr ⟨hnf, rfl, by rw [show x + j - x = j by omega] at z2; exact z2⟩⟩⟩, by rw [show x + j - x = j by omega] at z1; exact z1⟩) hP hD hS (lv_sub hl [4, 5, 2, 1, 0] rfl)
        · obtain ⟨w, rfl⟩ : ∃ w, i = w + 1 := ⟨i - 1, by omega⟩
          have hps := hI.1 w (by omega)
          have hpx := hi2 w (by omega)
          refine lv_aload_n hx hb dX0_give_59 rfl (lv_at hl 2 rfl) ?_
          refine va_get (D := G) (ci := 0) (v := .ref a1) (C := RX0) (T := TX0) (N := 5) hx hb hts in_X0 hown hK hP 0 rfl rfl 1 (by decide) (hts _ q42) (fun _ h9 => h9) rfl dX0_give_60 ?_
          refine lv_iload hx hb dX0_give_63 (lv_at hl 0 rfl) ?_
          refine zr_iald hx hb hK hP 1 0 rfl rfl w (by omega) (by omega) (by decide) dX0_give_65 ?_
          refine lv_aload_n hx hb dX0_give_66 rfl (lv_at hl 2 rfl) ?_
          refine va_get (D := G) (ci := 0) (v := .ref a2) (C := RX0) (T := TX0) (N := 5) hx hb hts in_X0 hown hK hP 0 rfl rfl 2 (by decide) (hts _ q43) (fun _ h9 => h9) rfl dX0_give_67 ?_
          refine lv_iload hx hb dX0_give_70 (lv_at hl 0 rfl) ?_
          refine zr_iald hx hb hK hP 2 0 rfl rfl w (by omega) (by omega) (by decide) dX0_give_72 ?_
          refine zr_iaddN hx hb dX0_give_73 ?_
          refine lv_iload_n hx hb dX0_give_74 rfl (lv_at hl 3 rfl) ?_
          refine zr_icmp_le (tgt := 81) hx hb dX0_give_75 (by decide) (by omega) (fun c75 => ?_) (fun c75 => ?_)
          · have hB : (w + 1) = 0 ∨ ∃ w9, (w + 1) = w9 + 1 ∧ w9 < cn ∧ pp w9 + ss w9 ≤ x := Or.inr ⟨w, rfl, by omega, by omega⟩
            have hnf := zg_nofree hI hi2 hi3 hB (y := x + j) (by omega)
            refine lv_iload_n hx hb dX0_give_81 rfl (lv_at hl 3 rfl) ?_
            refine lv_istore (lv' := [(5, .int (zI ((x : Nat) : Int))), (4, .int (zI ((((w + 1) : Nat) : Int) - ((1 : Nat) : Int)))), (3, .int (zI (((w + 1) : Nat) : Int))), (0, .ref h0), (1, .int (zI ((x : Nat) : Int))), (2, .int (zI ((j : Nat) : Int)))]) hx hb dX0_give_82 hl (by decide) rfl (fun ls hl => ?_)
            refine lv_iload_n hx hb dX0_give_84 rfl (lv_at hl 4 rfl) ?_
            refine lv_iload_n hx hb dX0_give_85 rfl (lv_at hl 5 rfl) ?_
            refine zr_iaddN hx hb dX0_give_86 ?_
            refine lv_istore (lv' := [(6, .int (zI ((x + j : Nat) : Int))), (5, .int (zI ((x : Nat) : Int))), (4, .int (zI ((((w + 1) : Nat) : Int) - ((1 : Nat) : Int)))), (3, .int (zI (((w + 1) : Nat) : Int))), (0, .ref h0), (1, .int (zI ((x : Nat) : Int))), (2, .int (zI ((j : Nat) : Int)))]) hx hb dX0_give_87 hl (by decide) rfl (fun ls hl => ?_)
            refine lv_iload_n hx hb dX0_give_89 rfl (lv_at hl 3 rfl) ?_
            refine lv_aload_n hx hb dX0_give_90 rfl (lv_at hl 4 rfl) ?_
            refine va_get (D := G) (ci := 0) (v := .int (zI ((cn : Nat) : Int))) (C := RX0) (T := TX0) (N := 5) hx hb hts in_X0 hown hK hP 0 rfl rfl 0 (by decide) (hts _ q41) (fun _ h9 => h9) rfl dX0_give_91 ?_
            refine zr_icmp_ge (tgt := 124) hx hb dX0_give_94 (by decide) (by omega) (fun c94 => ?_) (fun c94 => by exfalso; omega)
            exact jX0_give hI (i := (w + 1)) (x := x) (en := x + j) hx hb hown hts hK hml (Nat.le_of_ble_eq_true rfl) (Nat.le_of_ble_eq_true rfl) hr hlocks hA (by omega) (by omega) (fun b9 g1 g2 => zg_nofree hI hi2 hi3 hB (y := x + j + 1) (by omega) b9 g1 (by omega)) hi1 hi2 hi3 (fun q u z1 z2 => ⟨q, zM F x j true, rfl, Or.inr ⟨x, rfl, by omega, Or.inr ⟨j, rfl, by omega, by omega, Or.inr ⟨hnf, rfl, by rw [show x + j - x = j by omega] at z2; exact z2⟩⟩⟩, by rw [show x + j - x = j by omega] at z1; exact z1⟩) hP hD hS (lv_sub hl [4, 5, 2, 1, 0] rfl)
          · refine zr_bipush (-5) hx hb dX0_give_78 (by decide) ?_
            exact zret_mui (v := zI (-5)) hx hb hr hlocks dX0_give_80 (cn, pp, ss, kk, tn) hP hK hD hS ⟨-5, F, rfl, Or.inr ⟨x, rfl, by omega, Or.inr ⟨j, rfl, by omega, by omega, Or.inl ⟨⟨x, Nat.le_refl _, by omega, zInv_in hI (show w < cn by omega) (by omega) (by omega)⟩, rfl, rfl⟩⟩⟩, hI⟩
      · have hpi := hI.1 i (by omega)
        have hpix := hi3 i (Nat.le_refl _) (by omega)
        refine lv_aload_n hx hb dX0_give_39 rfl (lv_at hl 2 rfl) ?_
        refine va_get (D := G) (ci := 0) (v := .ref a1) (C := RX0) (T := TX0) (N := 5) hx hb hts in_X0 hown hK hP 0 rfl rfl 1 (by decide) (hts _ q42) (fun _ h9 => h9) rfl dX0_give_40 ?_
        refine lv_iload_n hx hb dX0_give_43 rfl (lv_at hl 1 rfl) ?_
        refine zr_iald hx hb hK hP 1 0 rfl rfl i rfl (by omega) (by decide) dX0_give_44 ?_
        refine lv_iload_n hx hb dX0_give_45 rfl (lv_at hl 3 rfl) ?_
        refine lv_iload_n hx hb dX0_give_46 rfl (lv_at hl 4 rfl) ?_
        refine zr_iaddN hx hb dX0_give_47 ?_
        refine zr_icmp_ge (tgt := 54) hx hb dX0_give_48 (by decide) (by omega) (fun c48 => ?_) (fun c48 => ?_)
        · refine lv_iload hx hb dX0_give_54 (lv_at hl 0 rfl) ?_
          refine zr_if_lt (tgt := 81) hx hb dX0_give_56 (by decide) (by omega) (fun c56 => ?_) (fun c56 => ?_)
          · have hB : i = 0 ∨ ∃ w9, i = w9 + 1 ∧ w9 < cn ∧ pp w9 + ss w9 ≤ x := Or.inl (by omega)
            have hnf := zg_nofree hI hi2 hi3 hB (y := x + j) (by omega)
            refine lv_iload_n hx hb dX0_give_81 rfl (lv_at hl 3 rfl) ?_
            refine lv_istore (lv' := [(5, .int (zI ((x : Nat) : Int))), (4, .int (zI (((i : Nat) : Int) - ((1 : Nat) : Int)))), (3, .int (zI ((i : Nat) : Int))), (0, .ref h0), (1, .int (zI ((x : Nat) : Int))), (2, .int (zI ((j : Nat) : Int)))]) hx hb dX0_give_82 hl (by decide) rfl (fun ls hl => ?_)
            refine lv_iload_n hx hb dX0_give_84 rfl (lv_at hl 4 rfl) ?_
            refine lv_iload_n hx hb dX0_give_85 rfl (lv_at hl 5 rfl) ?_
            refine zr_iaddN hx hb dX0_give_86 ?_
            refine lv_istore (lv' := [(6, .int (zI ((x + j : Nat) : Int))), (5, .int (zI ((x : Nat) : Int))), (4, .int (zI (((i : Nat) : Int) - ((1 : Nat) : Int)))), (3, .int (zI ((i : Nat) : Int))), (0, .ref h0), (1, .int (zI ((x : Nat) : Int))), (2, .int (zI ((j : Nat) : Int)))]) hx hb dX0_give_87 hl (by decide) rfl (fun ls hl => ?_)
            refine lv_iload_n hx hb dX0_give_89 rfl (lv_at hl 3 rfl) ?_
            refine lv_aload_n hx hb dX0_give_90 rfl (lv_at hl 4 rfl) ?_
            refine va_get (D := G) (ci := 0) (v := .int (zI ((cn : Nat) : Int))) (C := RX0) (T := TX0) (N := 5) hx hb hts in_X0 hown hK hP 0 rfl rfl 0 (by decide) (hts _ q41) (fun _ h9 => h9) rfl dX0_give_91 ?_
            refine zr_icmp_ge (tgt := 124) hx hb dX0_give_94 (by decide) (by omega) (fun c94 => by exfalso; omega) (fun c94 => ?_)
            refine lv_aload_n hx hb dX0_give_97 rfl (lv_at hl 4 rfl) ?_
            refine va_get (D := G) (ci := 0) (v := .ref a1) (C := RX0) (T := TX0) (N := 5) hx hb hts in_X0 hown hK hP 0 rfl rfl 1 (by decide) (hts _ q42) (fun _ h9 => h9) rfl dX0_give_98 ?_
            refine lv_iload_n hx hb dX0_give_101 rfl (lv_at hl 3 rfl) ?_
            refine zr_iald hx hb hK hP 1 0 rfl rfl i rfl (by omega) (by decide) dX0_give_102 ?_
            refine lv_iload hx hb dX0_give_103 (lv_at hl 0 rfl) ?_
            refine zr_icmp_ne (tgt := 124) hx hb dX0_give_105 (by decide) (by omega) (fun c105 => ?_) (fun c105 => ?_)
            · exact jX0_give hI (i := i) (x := x) (en := x + j) hx hb hown hts hK hml (Nat.le_of_ble_eq_true rfl) (Nat.le_of_ble_eq_true rfl) hr hlocks hA (by omega) (by omega) (fun b9 g1 g2 => zg_nofree hI hi2 hi3 hB (y := x + j + 1) (by omega) b9 g1 (by omega)) hi1 hi2 hi3 (fun q u z1 z2 => ⟨q, zM F x j true, rfl, Or.inr ⟨x, rfl, by omega, Or.inr ⟨j, rfl, by omega, by omega, Or.inr ⟨hnf, rfl, by rw [show x + j - x = j by omega] at z2; exact z2⟩⟩⟩, by rw [show x + j - x = j by omega] at z1; exact z1⟩) hP hD hS (lv_sub hl [4, 5, 2, 1, 0] rfl)
            · refine lv_iload hx hb dX0_give_108 (lv_at hl 0 rfl) ?_
              refine lv_aload_n hx hb dX0_give_110 rfl (lv_at hl 4 rfl) ?_
              refine va_get (D := G) (ci := 0) (v := .ref a2) (C := RX0) (T := TX0) (N := 5) hx hb hts in_X0 hown hK hP 0 rfl rfl 2 (by decide) (hts _ q43) (fun _ h9 => h9) rfl dX0_give_111 ?_
              refine lv_iload_n hx hb dX0_give_114 rfl (lv_at hl 3 rfl) ?_
              refine zr_iald hx hb hK hP 2 0 rfl rfl i rfl (by omega) (by decide) dX0_give_115 ?_
              refine zr_iaddN hx hb dX0_give_116 ?_
              refine lv_istore (lv' := [(6, .int (zI (((x + j) + (ss i) : Nat) : Int))), (5, .int (zI ((x : Nat) : Int))), (4, .int (zI (((i : Nat) : Int) - ((1 : Nat) : Int)))), (3, .int (zI ((i : Nat) : Int))), (0, .ref h0), (1, .int (zI ((x : Nat) : Int))), (2, .int (zI ((j : Nat) : Int)))]) hx hb dX0_give_117 hl (by decide) rfl (fun ls hl => ?_)
              refine lv_aload_n hx hb dX0_give_119 rfl (lv_at hl 4 rfl) ?_
              refine lv_iload_n hx hb dX0_give_120 rfl (lv_at hl 3 rfl) ?_
              refine zc_muv (n := 1) (As := [.int (zI ((i : Nat) : Int))]) (rest := []) ⟨hx, hb, hml, hown, hts⟩ (metX0_remove l G H.size hI (i := i) (by omega)) (lw_V q69 q71 qs4 q15 q72) ⟨rfl, rfl⟩ (by decide +kernel) ⟨Nat.le_of_ble_eq_true rfl, Nat.le_of_ble_eq_true rfl⟩ hK hP hD hS hA 0 0 rfl rfl rfl rfl rfl hl (Nat.le_of_ble_eq_true rfl) ⟨Nat.zero_le _, Nat.zero_le _⟩ dX0_give_121 (fun u121 H locs h121 hP hD hS => ?_)
              obtain ⟨c1, p1, s1, k1, t1⟩ := u121
              have hP : va_P G vwCl (wX h0 a1 a2 a3 dA c1 p1 s1 k1 t1) H := hP
              have hD : va_D A (wX h0 a1 a2 a3 dA c1 p1 s1 k1 t1) := hD
              obtain ⟨z1, z2, z3⟩ := zg_lf hI (show i < cn by omega) hi2 hi3
              obtain ⟨y1, y2, y3, y4⟩ := h121
              dsimp only at y2 y3 y4
              subst y2
              subst y3
              subst y4
              exact jX0_give y1 (i := i) (x := x) (en := (x + j) + ss i) hx hb hown hts hK hml (Nat.le_of_ble_eq_true rfl) (Nat.le_of_ble_eq_true rfl) hr hlocks hA (by omega) (by omega) (zg_nextfree hI (by omega) (by omega) hnf) z1 z2 z3 (fun q u z1 z2 => ⟨q, zM F x j true, rfl, Or.inr ⟨x, rfl, by omega, Or.inr ⟨j, rfl, by omega, by omega, Or.inr ⟨hnf, rfl, by rw [zg_nexteq hI (show i < cn by omega) (by omega)] at z2; exact z2⟩⟩⟩, by rw [zg_nexteq hI (show i < cn by omega) (by omega)] at z1; exact z1⟩) hP hD hS (lv_sub hl [4, 5, 2, 1, 0] rfl)
          · obtain ⟨w, rfl⟩ : ∃ w, i = w + 1 := ⟨i - 1, by omega⟩
            have hps := hI.1 w (by omega)
            have hpx := hi2 w (by omega)
            refine lv_aload_n hx hb dX0_give_59 rfl (lv_at hl 2 rfl) ?_
            refine va_get (D := G) (ci := 0) (v := .ref a1) (C := RX0) (T := TX0) (N := 5) hx hb hts in_X0 hown hK hP 0 rfl rfl 1 (by decide) (hts _ q42) (fun _ h9 => h9) rfl dX0_give_60 ?_
            refine lv_iload hx hb dX0_give_63 (lv_at hl 0 rfl) ?_
            refine zr_iald hx hb hK hP 1 0 rfl rfl w (by omega) (by omega) (by decide) dX0_give_65 ?_
            refine lv_aload_n hx hb dX0_give_66 rfl (lv_at hl 2 rfl) ?_
            refine va_get (D := G) (ci := 0) (v := .ref a2) (C := RX0) (T := TX0) (N := 5) hx hb hts in_X0 hown hK hP 0 rfl rfl 2 (by decide) (hts _ q43) (fun _ h9 => h9) rfl dX0_give_67 ?_
            refine lv_iload hx hb dX0_give_70 (lv_at hl 0 rfl) ?_
            refine zr_iald hx hb hK hP 2 0 rfl rfl w (by omega) (by omega) (by decide) dX0_give_72 ?_
            refine zr_iaddN hx hb dX0_give_73 ?_
            refine lv_iload_n hx hb dX0_give_74 rfl (lv_at hl 3 rfl) ?_
            refine zr_icmp_le (tgt := 81) hx hb dX0_give_75 (by decide) (by omega) (fun c75 => ?_) (fun c75 => ?_)
            · have hB : (w + 1) = 0 ∨ ∃ w9, (w + 1) = w9 + 1 ∧ w9 < cn ∧ pp w9 + ss w9 ≤ x := Or.inr ⟨w, rfl, by omega, by omega⟩
              have hnf := zg_nofree hI hi2 hi3 hB (y := x + j) (by omega)
              refine lv_iload_n hx hb dX0_give_81 rfl (lv_at hl 3 rfl) ?_
              refine lv_istore (lv' := [(5, .int (zI ((x : Nat) : Int))), (4, .int (zI ((((w + 1) : Nat) : Int) - ((1 : Nat) : Int)))), (3, .int (zI (((w + 1) : Nat) : Int))), (0, .ref h0), (1, .int (zI ((x : Nat) : Int))), (2, .int (zI ((j : Nat) : Int)))]) hx hb dX0_give_82 hl (by decide) rfl (fun ls hl => ?_)
              refine lv_iload_n hx hb dX0_give_84 rfl (lv_at hl 4 rfl) ?_
              refine lv_iload_n hx hb dX0_give_85 rfl (lv_at hl 5 rfl) ?_
              refine zr_iaddN hx hb dX0_give_86 ?_
              refine lv_istore (lv' := [(6, .int (zI ((x + j : Nat) : Int))), (5, .int (zI ((x : Nat) : Int))), (4, .int (zI ((((w + 1) : Nat) : Int) - ((1 : Nat) : Int)))), (3, .int (zI (((w + 1) : Nat) : Int))), (0, .ref h0), (1, .int (zI ((x : Nat) : Int))), (2, .int (zI ((j : Nat) : Int)))]) hx hb dX0_give_87 hl (by decide) rfl (fun ls hl => ?_)
              refine lv_iload_n hx hb dX0_give_89 rfl (lv_at hl 3 rfl) ?_
              refine lv_aload_n hx hb dX0_give_90 rfl (lv_at hl 4 rfl) ?_
              refine va_get (D := G) (ci := 0) (v := .int (zI ((cn : Nat) : Int))) (C := RX0) (T := TX0) (N := 5) hx hb hts in_X0 hown hK hP 0 rfl rfl 0 (by decide) (hts _ q41) (fun _ h9 => h9) rfl dX0_give_91 ?_
              refine zr_icmp_ge (tgt := 124) hx hb dX0_give_94 (by decide) (by omega) (fun c94 => by exfalso; omega) (fun c94 => ?_)
              refine lv_aload_n hx hb dX0_give_97 rfl (lv_at hl 4 rfl) ?_
              refine va_get (D := G) (ci := 0) (v := .ref a1) (C := RX0) (T := TX0) (N := 5) hx hb hts in_X0 hown hK hP 0 rfl rfl 1 (by decide) (hts _ q42) (fun _ h9 => h9) rfl dX0_give_98 ?_
              refine lv_iload_n hx hb dX0_give_101 rfl (lv_at hl 3 rfl) ?_
              refine zr_iald hx hb hK hP 1 0 rfl rfl (w + 1) rfl (by omega) (by decide) dX0_give_102 ?_
              refine lv_iload hx hb dX0_give_103 (lv_at hl 0 rfl) ?_
              refine zr_icmp_ne (tgt := 124) hx hb dX0_give_105 (by decide) (by omega) (fun c105 => ?_) (fun c105 => ?_)
              · exact jX0_give hI (i := (w + 1)) (x := x) (en := x + j) hx hb hown hts hK hml (Nat.le_of_ble_eq_true rfl) (Nat.le_of_ble_eq_true rfl) hr hlocks hA (by omega) (by omega) (fun b9 g1 g2 => zg_nofree hI hi2 hi3 hB (y := x + j + 1) (by omega) b9 g1 (by omega)) hi1 hi2 hi3 (fun q u z1 z2 => ⟨q, zM F x j true, rfl, Or.inr ⟨x, rfl, by omega, Or.inr ⟨j, rfl, by omega, by omega, Or.inr ⟨hnf, rfl, by rw [show x + j - x = j by omega] at z2; exact z2⟩⟩⟩, by rw [show x + j - x = j by omega] at z1; exact z1⟩) hP hD hS (lv_sub hl [4, 5, 2, 1, 0] rfl)
              · refine lv_iload hx hb dX0_give_108 (lv_at hl 0 rfl) ?_
                refine lv_aload_n hx hb dX0_give_110 rfl (lv_at hl 4 rfl) ?_
                refine va_get (D := G) (ci := 0) (v := .ref a2) (C := RX0) (T := TX0) (N := 5) hx hb hts in_X0 hown hK hP 0 rfl rfl 2 (by decide) (hts _ q43) (fun _ h9 => h9) rfl dX0_give_111 ?_
                refine lv_iload_n hx hb dX0_give_114 rfl (lv_at hl 3 rfl) ?_
                refine zr_iald hx hb hK hP 2 0 rfl rfl (w + 1) rfl (by omega) (by decide) dX0_give_115 ?_
                refine zr_iaddN hx hb dX0_give_116 ?_
                refine lv_istore (lv' := [(6, .int (zI (((x + j) + (ss (w + 1)) : Nat) : Int))), (5, .int (zI ((x : Nat) : Int))), (4, .int (zI ((((w + 1) : Nat) : Int) - ((1 : Nat) : Int)))), (3, .int (zI (((w + 1) : Nat) : Int))), (0, .ref h0), (1, .int (zI ((x : Nat) : Int))), (2, .int (zI ((j : Nat) : Int)))]) hx hb dX0_give_117 hl (by decide) rfl (fun ls hl => ?_)
                refine lv_aload_n hx hb dX0_give_119 rfl (lv_at hl 4 rfl) ?_
                refine lv_iload_n hx hb dX0_give_120 rfl (lv_at hl 3 rfl) ?_
                refine zc_muv (n := 1) (As := [.int (zI (((w + 1) : Nat) : Int))]) (rest := []) ⟨hx, hb, hml, hown, hts⟩ (metX0_remove l G H.size hI (i := (w + 1)) (by omega)) (lw_V q69 q71 qs4 q15 q72) ⟨rfl, rfl⟩ (by decide +kernel) ⟨Nat.le_of_ble_eq_true rfl, Nat.le_of_ble_eq_true rfl⟩ hK hP hD hS hA 0 0 rfl rfl rfl rfl rfl hl (Nat.le_of_ble_eq_true rfl) ⟨Nat.zero_le _, Nat.zero_le _⟩ dX0_give_121 (fun u121 H locs h121 hP hD hS => ?_)
                obtain ⟨c1, p1, s1, k1, t1⟩ := u121
                have hP : va_P G vwCl (wX h0 a1 a2 a3 dA c1 p1 s1 k1 t1) H := hP
                have hD : va_D A (wX h0 a1 a2 a3 dA c1 p1 s1 k1 t1) := hD
                obtain ⟨z1, z2, z3⟩ := zg_lf hI (show (w + 1) < cn by omega) hi2 hi3
                obtain ⟨y1, y2, y3, y4⟩ := h121
                dsimp only at y2 y3 y4
                subst y2
                subst y3
                subst y4
                exact jX0_give y1 (i := (w + 1)) (x := x) (en := (x + j) + ss (w + 1)) hx hb hown hts hK hml (Nat.le_of_ble_eq_true rfl) (Nat.le_of_ble_eq_true rfl) hr hlocks hA (by omega) (by omega) (zg_nextfree hI (by omega) (by omega) hnf) z1 z2 z3 (fun q u z1 z2 => ⟨q, zM F x j true, rfl, Or.inr ⟨x, rfl, by omega, Or.inr ⟨j, rfl, by omega, by omega, Or.inr ⟨hnf, rfl, by rw [zg_nexteq hI (show (w + 1) < cn by omega) (by omega)] at z2; exact z2⟩⟩⟩, by rw [zg_nexteq hI (show (w + 1) < cn by omega) (by omega)] at z1; exact z1⟩) hP hD hS (lv_sub hl [4, 5, 2, 1, 0] rfl)
            · refine zr_bipush (-5) hx hb dX0_give_78 (by decide) ?_
              exact zret_mui (v := zI (-5)) hx hb hr hlocks dX0_give_80 (cn, pp, ss, kk, tn) hP hK hD hS ⟨-5, F, rfl, Or.inr ⟨x, rfl, by omega, Or.inr ⟨j, rfl, by omega, by omega, Or.inl ⟨⟨x, Nat.le_refl _, by omega, zInv_in hI (show w < cn by omega) (by omega) (by omega)⟩, rfl, rfl⟩⟩⟩, hI⟩
        · refine zr_bipush (-5) hx hb dX0_give_51 (by decide) ?_
          exact zret_mui (v := zI (-5)) hx hb hr hlocks dX0_give_53 (cn, pp, ss, kk, tn) hP hK hD hS ⟨-5, F, rfl, Or.inr ⟨x, rfl, by omega, Or.inr ⟨j, rfl, by omega, by omega, Or.inl ⟨⟨pp i, by omega, by omega, zInv_in hI (by omega) (Nat.le_refl _) (by omega)⟩, rfl, rfl⟩⟩⟩, hI⟩
set_option maxHeartbeats 4000000 in
set_option maxRecDepth 100000 in
theorem lpX0_pieces {p : Program} {l : Launch} {e : Env} {R : Room} {s : State} {m : MethodId} {args : Array Value} {below : List Frame} {meth : Method} {c : Code} {cells slots : Nat} {Q : State → Prop} {G : va_G} {H0 : Heap} {A : Nat → Prop} {h0 a1 a2 a3 : Nat} {dA : ClassId} {Fz : Nat → Bool} {x : Nat} (hx : p.tables.exec = Jvm.exec) (hb : c.code = cX0_takePieces) (hown : s.vm.findClass RX0 = some m.cls) (hts : ∀ w ∈ lw_all, w.before args s = true) (hK : va_K G vwCl [(dA, .int)] s) (hml : c.maxLocals = 5) (hRf : 3 ≤ R.frames) (hRl : 74 ≤ R.locals) (hcs : cells ≤ R.cells ∧ slots ≤ R.slots) (hA : ∀ q, H0.size ≤ q → A q) (hx9 : x ≤ 256)
    (kx : ∀ (g : Nat) (F : Nat → Bool) (cn : Nat) (pp ss kk : Nat → Nat) (tn : Nat) (H : Heap) (locs : List Loc) (ls : Array Slot), zInv F cn pp ss kk tn → zPS 256 Fz x 0 g F → va_P G vwCl (wX h0 a1 a2 a3 dA cn pp ss kk tn) H → va_D A (wX h0 a1 a2 a3 dA cn pp ss kk tn) → va_S A H0 H locs → lv_has ls 5 [(0, .ref h0), (1, .int (zI ((x : Nat) : Int))), (2, .int (zI ((g : Nat) : Int)))] → W p l e R s m args below meth c H locs cells slots Q (F0 m 76 ls [])) :
    ∀ (d n g : Nat) (F : Nat → Bool) (cn : Nat) (pp ss kk : Nat → Nat) (tn : Nat) (H : Heap) (locs : List Loc) (ls : Array Slot), n < d → x ≤ g + n → g ≤ 256 → zInv F cn pp ss kk tn → (∀ r F9, zPS n F x g r F9 → zPS 256 Fz x 0 r F9) → va_P G vwCl (wX h0 a1 a2 a3 dA cn pp ss kk tn) H → va_D A (wX h0 a1 a2 a3 dA cn pp ss kk tn) → va_S A H0 H locs → lv_has ls 5 [(0, .ref h0), (1, .int (zI ((x : Nat) : Int))), (2, .int (zI ((g : Nat) : Int)))] → W p l e R s m args below meth c H locs cells slots Q (F0 m 12 ls []) := by
  intro d
  induction d with
  | zero => intro n g F cn pp ss kk tn H locs ls h; exact absurd h (Nat.not_lt_zero _)
  | succ d ih =>
    intro n g F cn pp ss kk tn H locs ls hd h1 h2 hI hcont hP hD hS hl
    have hc128 := zInv_c hI
    refine lv_iload_n hx hb dX0_takePieces_12 rfl (lv_at hl 2 rfl) ?_
    refine lv_iload_n hx hb dX0_takePieces_13 rfl (lv_at hl 1 rfl) ?_
    refine zr_icmp_ge (tgt := 76) hx hb dX0_takePieces_14 (by decide) (by omega) (fun c14 => ?_) (fun c14 => ?_)
    · exact kx g F cn pp ss kk tn H locs ls hI (hcont _ _ (zPS_end (Or.inl (by omega)) n)) hP hD hS (lv_sub hl [0, 1, 2] rfl)
    · refine lv_aload_n hx hb dX0_takePieces_17 rfl (lv_at hl 0 rfl) ?_
      refine va_get (D := G) (ci := 0) (v := .int (zI ((cn : Nat) : Int))) (C := RX0) (T := TX0) (N := 5) hx hb hts in_X0 hown hK hP 0 rfl rfl 0 (by decide) (hts _ q41) (fun _ h9 => h9) rfl dX0_takePieces_18 ?_
      refine zr_if_le (tgt := 76) hx hb dX0_takePieces_21 (by decide) (by omega) (fun c21 => ?_) (fun c21 => ?_)
      · have e8 : cn = 0 := by omega
        subst e8
        exact kx g F 0 pp ss kk tn H locs ls hI (hcont _ _ (zPS_end (Or.inr (zx_bg0 hI)) n)) hP hD hS (lv_sub hl [0, 1, 2] rfl)
      · obtain ⟨n, rfl⟩ : ∃ y, n = y + 1 := ⟨n - 1, by omega⟩
        refine lv_aload_n hx hb dX0_takePieces_24 rfl (lv_at hl 0 rfl) ?_
        refine zc_ro (n := 0) (As := []) (rest := []) ⟨hx, hb, hml, hown, hts⟩ (metX0_largestExtent l G hI (by omega)) (lw_V q99 q101 qs6 q15 q102) ⟨rfl, rfl⟩ (by decide +kernel) ⟨Nat.le_trans (by decide) hRf, Nat.le_trans (by decide) hRl⟩ hK hP 0 0 rfl rfl rfl rfl rfl hl (Nat.le_of_ble_eq_true rfl) hcs dX0_takePieces_25 (fun r25 h25 => ?_)
        obtain ⟨i, hi1, rfl, hlg⟩ := h25
        refine lv_istore_n (lv' := [(3, .int (zI ((i : Nat) : Int))), (0, .ref h0), (1, .int (zI ((x : Nat) : Int))), (2, .int (zI ((g : Nat) : Int)))]) hx hb dX0_takePieces_28 rfl hl (by decide) rfl (fun ls hl => ?_)
        have hps := hI.1 i hi1
        have hrn := zInv_run hI hi1
        refine lv_aload_n hx hb dX0_takePieces_29 rfl (lv_at hl 1 rfl) ?_
        refine va_get (D := G) (ci := 0) (v := .ref a2) (C := RX0) (T := TX0) (N := 5) hx hb hts in_X0 hown hK hP 0 rfl rfl 2 (by decide) (hts _ q43) (fun _ h9 => h9) rfl dX0_takePieces_30 ?_
        refine lv_iload_n hx hb dX0_takePieces_33 rfl (lv_at hl 0 rfl) ?_
        refine zr_iald hx hb hK hP 2 0 rfl rfl i rfl (by omega) (by decide) dX0_takePieces_34 ?_
        refine lv_iload_n hx hb dX0_takePieces_35 rfl (lv_at hl 2 rfl) ?_
        refine lv_iload_n hx hb dX0_takePieces_36 rfl (lv_at hl 3 rfl) ?_
        refine zr_isub hx hb dX0_takePieces_37 ?_
        refine zr_icmp_ge (tgt := 50) hx hb dX0_takePieces_38 (by decide) (by omega) (fun c38 => ?_) (fun c38 => ?_)
        · refine lv_iload_n hx hb dX0_takePieces_50 rfl (lv_at hl 2 rfl) ?_
          refine lv_iload_n hx hb dX0_takePieces_51 rfl (lv_at hl 3 rfl) ?_
          refine zr_isubN hx hb (by omega) dX0_takePieces_52 ?_
          refine lv_istore (lv' := [(4, .int (zI ((x - g : Nat) : Int))), (3, .int (zI ((i : Nat) : Int))), (0, .ref h0), (1, .int (zI ((x : Nat) : Int))), (2, .int (zI ((g : Nat) : Int)))]) hx hb dX0_takePieces_53 hl (by decide) rfl (fun ls hl => ?_)
          refine lv_aload_n hx hb dX0_takePieces_55 rfl (lv_at hl 2 rfl) ?_
          refine lv_iload_n hx hb dX0_takePieces_56 rfl (lv_at hl 1 rfl) ?_
          refine lv_aload_n hx hb dX0_takePieces_57 rfl (lv_at hl 2 rfl) ?_
          refine va_get (D := G) (ci := 0) (v := .ref a1) (C := RX0) (T := TX0) (N := 5) hx hb hts in_X0 hown hK hP 0 rfl rfl 1 (by decide) (hts _ q42) (fun _ h9 => h9) rfl dX0_takePieces_58 ?_
          refine lv_iload_n hx hb dX0_takePieces_61 rfl (lv_at hl 1 rfl) ?_
          refine zr_iald hx hb hK hP 1 0 rfl rfl i rfl (by omega) (by decide) dX0_takePieces_62 ?_
          refine lv_iload hx hb dX0_takePieces_63 (lv_at hl 0 rfl) ?_
          refine zc_muv (n := 3) (As := [.int (zI ((i : Nat) : Int)), .int (zI ((pp i : Nat) : Int)), .int (zI ((x - g : Nat) : Int))]) (rest := []) ⟨hx, hb, hml, hown, hts⟩ (metX0_cut l G H.size hI hi1 (f := pp i) (nn := x - g) (Nat.le_refl _) (by omega) (by omega)) (lw_V q65 q67 qs3 q15 q68) ⟨rfl, rfl⟩ (by decide +kernel) ⟨Nat.le_trans (by decide) hRf, Nat.le_trans (by decide) hRl⟩ hK hP hD hS hA 0 0 rfl rfl rfl rfl rfl hl (Nat.le_of_ble_eq_true rfl) hcs dX0_takePieces_65 (fun u65 H locs h65 hP hD hS => ?_)
          obtain ⟨c1, p1, s1, k1, t1⟩ := u65
          have hP : va_P G vwCl (wX h0 a1 a2 a3 dA c1 p1 s1 k1 t1) H := hP
          have hD : va_D A (wX h0 a1 a2 a3 dA c1 p1 s1 k1 t1) := hD
          refine lv_iload_n hx hb dX0_takePieces_68 rfl (lv_at hl 4 rfl) ?_
          refine lv_iload hx hb dX0_takePieces_69 (lv_at hl 0 rfl) ?_
          refine zr_iaddN hx hb dX0_takePieces_71 ?_
          refine lv_istore_n (lv' := [(2, .int (zI ((g + (x - g) : Nat) : Int))), (4, .int (zI ((x - g : Nat) : Int))), (3, .int (zI ((i : Nat) : Int))), (0, .ref h0), (1, .int (zI ((x : Nat) : Int)))]) hx hb dX0_takePieces_72 rfl hl (by decide) rfl (fun ls hl => ?_)
          refine lv_goto (tgt := 12) hx hb dX0_takePieces_73 (by decide) ?_
          have em : min (zRun F (pp i)) (x - g) = x - g := by omega
          exact ih n (g + (x - g)) _ c1 p1 s1 k1 t1 H locs ls (by omega) (by omega) (by omega) h65 (fun r F9 hz => hcont r F9 (Or.inr ⟨by omega, pp i, hlg, by rw [em]; exact hz⟩)) hP hD hS (lv_sub hl [3, 4, 0] rfl)
        · refine lv_aload_n hx hb dX0_takePieces_41 rfl (lv_at hl 1 rfl) ?_
          refine va_get (D := G) (ci := 0) (v := .ref a2) (C := RX0) (T := TX0) (N := 5) hx hb hts in_X0 hown hK hP 0 rfl rfl 2 (by decide) (hts _ q43) (fun _ h9 => h9) rfl dX0_takePieces_42 ?_
          refine lv_iload_n hx hb dX0_takePieces_45 rfl (lv_at hl 0 rfl) ?_
          refine zr_iald hx hb hK hP 2 0 rfl rfl i rfl (by omega) (by decide) dX0_takePieces_46 ?_
          refine lv_goto (tgt := 53) hx hb dX0_takePieces_47 (by decide) ?_
          refine lv_istore (lv' := [(4, .int (zI ((ss i : Nat) : Int))), (3, .int (zI ((i : Nat) : Int))), (0, .ref h0), (1, .int (zI ((x : Nat) : Int))), (2, .int (zI ((g : Nat) : Int)))]) hx hb dX0_takePieces_53 hl (by decide) rfl (fun ls hl => ?_)
          refine lv_aload_n hx hb dX0_takePieces_55 rfl (lv_at hl 2 rfl) ?_
          refine lv_iload_n hx hb dX0_takePieces_56 rfl (lv_at hl 1 rfl) ?_
          refine lv_aload_n hx hb dX0_takePieces_57 rfl (lv_at hl 2 rfl) ?_
          refine va_get (D := G) (ci := 0) (v := .ref a1) (C := RX0) (T := TX0) (N := 5) hx hb hts in_X0 hown hK hP 0 rfl rfl 1 (by decide) (hts _ q42) (fun _ h9 => h9) rfl dX0_takePieces_58 ?_
          refine lv_iload_n hx hb dX0_takePieces_61 rfl (lv_at hl 1 rfl) ?_
          refine zr_iald hx hb hK hP 1 0 rfl rfl i rfl (by omega) (by decide) dX0_takePieces_62 ?_
          refine lv_iload hx hb dX0_takePieces_63 (lv_at hl 0 rfl) ?_
          refine zc_muv (n := 3) (As := [.int (zI ((i : Nat) : Int)), .int (zI ((pp i : Nat) : Int)), .int (zI ((ss i : Nat) : Int))]) (rest := []) ⟨hx, hb, hml, hown, hts⟩ (metX0_cut l G H.size hI hi1 (f := pp i) (nn := ss i) (Nat.le_refl _) (by omega) (by omega)) (lw_V q65 q67 qs3 q15 q68) ⟨rfl, rfl⟩ (by decide +kernel) ⟨Nat.le_trans (by decide) hRf, Nat.le_trans (by decide) hRl⟩ hK hP hD hS hA 0 0 rfl rfl rfl rfl rfl hl (Nat.le_of_ble_eq_true rfl) hcs dX0_takePieces_65 (fun u65 H locs h65 hP hD hS => ?_)
          obtain ⟨c1, p1, s1, k1, t1⟩ := u65
          have hP : va_P G vwCl (wX h0 a1 a2 a3 dA c1 p1 s1 k1 t1) H := hP
          have hD : va_D A (wX h0 a1 a2 a3 dA c1 p1 s1 k1 t1) := hD
          refine lv_iload_n hx hb dX0_takePieces_68 rfl (lv_at hl 4 rfl) ?_
          refine lv_iload hx hb dX0_takePieces_69 (lv_at hl 0 rfl) ?_
          refine zr_iaddN hx hb dX0_takePieces_71 ?_
          refine lv_istore_n (lv' := [(2, .int (zI ((g + (ss i) : Nat) : Int))), (4, .int (zI ((ss i : Nat) : Int))), (3, .int (zI ((i : Nat) : Int))), (0, .ref h0), (1, .int (zI ((x : Nat) : Int)))]) hx hb dX0_takePieces_72 rfl hl (by decide) rfl (fun ls hl => ?_)
          refine lv_goto (tgt := 12) hx hb dX0_takePieces_73 (by decide) ?_
          have em : min (zRun F (pp i)) (x - g) = ss i := by omega
          exact ih n (g + (ss i)) _ c1 p1 s1 k1 t1 H locs ls (by omega) (by omega) (by omega) h65 (fun r F9 hz => hcont r F9 (Or.inr ⟨by omega, pp i, hlg, by rw [em]; exact hz⟩)) hP hD hS (lv_sub hl [3, 4, 0] rfl)
set_option maxHeartbeats 4000000 in
set_option maxRecDepth 100000 in
theorem metX0_takePieces (l : Launch) (G : va_G) (sz : Nat) {h0 a1 a2 a3 : Nat} {dA : ClassId} {F : Nat → Bool} {cn tn : Nat} {pp ss kk : Nat → Nat} (hI : zInv F cn pp ss kk tn) {b : Int} (hb0 : zIn b) : zMU l yX0_takePieces cX0_takePieces 5 (some .int) ({ frames := 3, cells := 0, slots := 0, locals := 74 } : Room) G (wX h0 a1 a2 a3 dA cn pp ss kk tn) [(dA, .int)] [.ref h0, .int (zI b)] sz (zQi G [(dA, .int)] (wXu h0 a1 a2 a3 dA) (fun r u => ∃ (q : Int) (F9 : Nat → Bool), r = zI q ∧ zsPieces F b q F9 ∧ zIv F9 u)) 0 0 := by
  refine zmu_enter (by decide) (Nat.le_of_ble_eq_true rfl) ?_
  intro p e s m below meth c A H locs hx hb hr hml hown hlocks hnm hts hA hP hK hD hS ls hl
  have hown : s.vm.findClass RX0 = some m.cls := hown
  have hl : lv_has ls 5 [(0, .ref h0), (1, .int (zI b))] := hl
  have hc128 := zInv_c hI
  have ht256 := zInv_t hI
  refine lv_iload_n hx hb dX0_takePieces_0 rfl (lv_at hl 1 rfl) ?_
  refine zc_st (n := 1) (As := [.int (zI b)]) (rest := []) ⟨hx, hb, hml, hown, hts⟩ (metX0_badSize l G hb0) (lw_S q62 q63 q15 q64) ⟨rfl, rfl⟩ (by decide +kernel) ⟨Nat.le_of_ble_eq_true rfl, Nat.le_of_ble_eq_true rfl⟩ hK rfl rfl hl (Nat.le_of_ble_eq_true rfl) ⟨Nat.zero_le _, Nat.zero_le _⟩ dX0_takePieces_1 (fun r1 h1 => ?_)
  rcases h1 with ⟨er1, h1⟩ | ⟨er1, h1⟩
  · subst er1
    refine zr_if_eq (tgt := 10) hx hb dX0_takePieces_4 (by decide) (by omega) (fun c4 => by exfalso; omega) (fun c4 => ?_)
    refine zr_bipush (-2) hx hb dX0_takePieces_7 (by decide) ?_
    exact zret_mui (v := zI (-2)) hx hb hr hlocks dX0_takePieces_9 (cn, pp, ss, kk, tn) hP hK hD hS ⟨-2, F, rfl, Or.inl ⟨h1, rfl, rfl⟩, hI⟩
  · subst er1
    refine zr_if_eq (tgt := 10) hx hb dX0_takePieces_4 (by decide) (by omega) (fun c4 => ?_) (fun c4 => by exfalso; omega)
    obtain ⟨x, rfl⟩ := Int.eq_ofNat_of_zero_le (show 0 ≤ b by omega)
    refine zr_iconstN 0 hx hb dX0_takePieces_10 rfl ?_
    refine lv_istore_n (lv' := [(2, .int (zI ((0 : Nat) : Int))), (0, .ref h0), (1, .int (zI ((x : Nat) : Int)))]) hx hb dX0_takePieces_11 rfl hl (by decide) rfl (fun ls hl => ?_)
    refine lpX0_pieces hx hb hown hts hK hml (Nat.le_of_ble_eq_true rfl) (Nat.le_of_ble_eq_true rfl) ⟨Nat.zero_le _, Nat.zero_le _⟩ hA (by omega) (fun g F8 cn pp ss kk tn H locs ls hI8 hz hP hD hS hl => ?_) 257 256 0 F cn pp ss kk tn H locs ls (by omega) (by omega) (by omega) hI (fun r F9 hz => hz) hP hD hS (lv_sub hl [1, 2, 0] rfl)
    refine lv_iload_n hx hb dX0_takePieces_76 rfl (lv_at hl 2 rfl) ?_
    exact zret_mui (v := zI ((g : Nat) : Int)) hx hb hr hlocks dX0_takePieces_77 (cn, pp, ss, kk, tn) hP hK hD hS ⟨_, F8, rfl, Or.inr ⟨x, g, rfl, by omega, by omega, rfl, hz⟩, hI8⟩
end
section
/-! the model's loops, in words of the map -/
def zIT (F : Nat → Bool) (x k : Nat) (bt : Int) (bz : Nat) : Prop :=
  (bt = -1 ∧ bz = 1000 ∧ ∀ b, b < k → zBg F b = true → zRun F b < x) ∨
  ∃ b : Nat, bt = (b : Int) ∧ b < k ∧ bz = zRun F b ∧ zBg F b = true ∧ x ≤ zRun F b ∧ ∀ y, y < k → zBg F y = true → x ≤ zRun F y → zRun F b < zRun F y ∨ (zRun F b = zRun F y ∧ b ≤ y)
def zIN (F : Nat → Bool) (x y k : Nat) (bt : Int) : Prop :=
  (bt = -1 ∧ ∀ b, b < k → zBg F b = true → zRun F b < x) ∨
  ∃ b : Nat, bt = (b : Int) ∧ b < k ∧ zBg F b = true ∧ x ≤ zRun F b ∧ ∀ z, z < k → zBg F z = true → x ≤ zRun F z → zAw b y < zAw z y ∨ (zAw b y = zAw z y ∧ b ≤ z)
/-- places from q on, seen from above: the last one that was found is the first -/
def zIL (F : Nat → Bool) (mo q : Nat) (pl : Int) : Prop :=
  (pl = -1 ∧ ∀ b, q ≤ b → zBg F b = true → zRun F b ≠ mo) ∨
  ∃ b : Nat, pl = (b : Int) ∧ q ≤ b ∧ zBg F b = true ∧ zRun F b = mo ∧ ∀ z, q ≤ z → zBg F z = true → zRun F z = mo → b ≤ z
section ZMo
variable {F : Nat → Bool} {x y k bz mo q : Nat} {bt pl : Int}
theorem zIT_0 : zIT F x 0 (-1) 1000 := Or.inl ⟨rfl, rfl, fun b h => absurd h (Nat.not_lt_zero _)⟩
theorem zIT_skip (h : zIT F x k bt bz) (hk : zBg F k = true → zRun F k < x ∨ bz ≤ zRun F k) : zIT F x (k + 1) bt bz := by
  have h256 := zRun_256 F k
  rcases h with ⟨h1, h2, h3⟩ | ⟨b, h1, h2, h3, h4, h5, h6⟩
  · refine Or.inl ⟨h1, h2, fun b hb hg => ?_⟩
    rcases Nat.lt_or_ge b k with g | g
    · exact h3 b g hg
    · have e : b = k := by omega
      subst e
      have := hk hg
      omega
  · refine Or.inr ⟨b, h1, by omega, h3, h4, h5, fun z hz hg hx => ?_⟩
    rcases Nat.lt_or_ge z k with g | g
    · exact h6 z g hg hx
    · have e : z = k := by omega
      subst e
      have := hk hg
      omega
theorem zIT_new (h : zIT F x k bt bz) (hg : zBg F k = true) (hx : x ≤ zRun F k) (hlt : zRun F k < bz) : zIT F x (k + 1) (k : Int) (zRun F k) := by
  refine Or.inr ⟨k, rfl, by omega, rfl, hg, hx, fun z hz hgz hxz => ?_⟩
  rcases Nat.lt_or_ge z k with g | g
  · rcases h with ⟨h1, h2, h3⟩ | ⟨b, h1, h2, h3, h4, h5, h6⟩
    · have := h3 z g hgz; omega
    · have := h6 z g hgz hxz; omega
  · have e : z = k := by omega
    subst e
    omega
theorem zIT_neg (hF : zOk F) (h : zIT F x 256 bt bz) (hb : bt < 0) : ∀ b, zBg F b = true → zRun F b < x := by
  rcases h with ⟨h1, h2, h3⟩ | ⟨b, h1, h2, h3, h4, h5, h6⟩
  · exact fun b hg => h3 b (zBg_lt hF hg) hg
  · omega
theorem zIT_pos (hF : zOk F) (h : zIT F x 256 bt bz) (hb : 0 ≤ bt) : ∃ b : Nat, bt = (b : Int) ∧ b < 256 ∧ zBg F b = true ∧ x ≤ zRun F b ∧ ∀ y, zBg F y = true → x ≤ zRun F y → zRun F b < zRun F y ∨ (zRun F b = zRun F y ∧ b ≤ y) := by
  rcases h with ⟨h1, h2, h3⟩ | ⟨b, h1, h2, h3, h4, h5, h6⟩
  · omega
  · exact ⟨b, h1, h2, h4, h5, fun z hz hx => h6 z (zBg_lt hF hz) hz hx⟩
theorem zIT_rng (h : zIT F x k bt bz) (hk : k ≤ 256) : -1 ≤ bt ∧ bt ≤ 255 ∧ bz ≤ 1000 := by
  rcases h with ⟨h1, h2, h3⟩ | ⟨b, h1, h2, h3, h4, h5, h6⟩
  · omega
  · have := zRun_256 F b; omega
theorem zIN_0 : zIN F x y 0 (-1) := Or.inl ⟨rfl, fun b h => absurd h (Nat.not_lt_zero _)⟩
theorem zIN_skip (h : zIN F x y k bt) (hk : zBg F k = true → zRun F k < x) : zIN F x y (k + 1) bt := by
  rcases h with ⟨h1, h3⟩ | ⟨b, h1, h2, h4, h5, h6⟩
  · refine Or.inl ⟨h1, fun b hb hg => ?_⟩
    rcases Nat.lt_or_ge b k with g | g
    · exact h3 b g hg
    · have e : b = k := by omega
      subst e
      exact hk hg
  · refine Or.inr ⟨b, h1, by omega, h4, h5, fun z hz hg hx => ?_⟩
    rcases Nat.lt_or_ge z k with g | g
    · exact h6 z g hg hx
    · have e : z = k := by omega
      subst e
      have := hk hg
      omega
theorem zIN_keep {b : Nat} (h : zIN F x y k (b : Int)) (hd : zAw b y ≤ zAw k y) : zIN F x y (k + 1) (b : Int) := by
  rcases h with ⟨h1, h3⟩ | ⟨b', h1, h2, h4, h5, h6⟩
  · omega
  · refine Or.inr ⟨b', h1, by omega, h4, h5, fun z hz hg hx => ?_⟩
    rcases Nat.lt_or_ge z k with g | g
    · exact h6 z g hg hx
    · have e : z = k := by omega
      subst e
      have e2 : b' = b := by omega
      subst e2
      omega
theorem zIN_first (h : zIN F x y k bt) (hb : bt < 0) (hg : zBg F k = true) (hx : x ≤ zRun F k) : zIN F x y (k + 1) (k : Int) := by
  refine Or.inr ⟨k, rfl, by omega, hg, hx, fun z hz hgz hxz => ?_⟩
  rcases h with ⟨h1, h3⟩ | ⟨b', h1, h2, h4, h5, h6⟩
  · rcases Nat.lt_or_ge z k with g | g
    · have := h3 z g hgz; omega
    · have e : z = k := by omega
      subst e
      omega
  · omega
theorem zIN_new {b : Nat} (h : zIN F x y k (b : Int)) (hg : zBg F k = true) (hx : x ≤ zRun F k) (hd : zAw k y < zAw b y) : zIN F x y (k + 1) (k : Int) := by
  refine Or.inr ⟨k, rfl, by omega, hg, hx, fun z hz hgz hxz => ?_⟩
  rcases h with ⟨h1, h3⟩ | ⟨b', h1, h2, h4, h5, h6⟩
  · omega
  · have e2 : b' = b := by omega
    subst e2
    rcases Nat.lt_or_ge z k with g | g
    · have := h6 z g hgz hxz; omega
    · have e : z = k := by omega
      subst e
      omega
theorem zIN_nat (h : zIN F x y k bt) (hb : 0 ≤ bt) : ∃ b : Nat, bt = (b : Int) ∧ b < k := by
  rcases h with ⟨h1, h3⟩ | ⟨b', h1, h2, h4, h5, h6⟩
  · omega
  · exact ⟨b', h1, h2⟩
theorem zIN_neg (hF : zOk F) (h : zIN F x y 256 bt) (hb : bt < 0) : ∀ b, zBg F b = true → zRun F b < x := by
  rcases h with ⟨h1, h3⟩ | ⟨b, h1, h2, h4, h5, h6⟩
  · exact fun b hg => h3 b (zBg_lt hF hg) hg
  · omega
theorem zIN_pos (hF : zOk F) (h : zIN F x y 256 bt) (hb : 0 ≤ bt) : ∃ b : Nat, bt = (b : Int) ∧ b < 256 ∧ zBg F b = true ∧ x ≤ zRun F b ∧ ∀ z, zBg F z = true → x ≤ zRun F z → zAw b y < zAw z y ∨ (zAw b y = zAw z y ∧ b ≤ z) := by
  rcases h with ⟨h1, h3⟩ | ⟨b, h1, h2, h4, h5, h6⟩
  · omega
  · exact ⟨b, h1, h2, h4, h5, fun z hz hx => h6 z (zBg_lt hF hz) hz hx⟩
theorem zIN_rng (h : zIN F x y k bt) (hk : k ≤ 256) : -1 ≤ bt ∧ bt ≤ 255 := by
  rcases h with ⟨h1, h3⟩ | ⟨b, h1, h2, h4, h5, h6⟩ <;> omega
theorem zIL_0 (hF : zOk F) : zIL F mo 256 (-1) := Or.inl ⟨rfl, fun b h hg => by have := zBg_lt hF hg; omega⟩
theorem zIL_skip (h : zIL F mo (q + 1) pl) (hk : zBg F q = true → zRun F q ≠ mo) : zIL F mo q pl := by
  rcases h with ⟨h1, h2⟩ | ⟨b, h1, h2, h3, h4, h5⟩
  · refine Or.inl ⟨h1, fun b hb hg => ?_⟩
    rcases Nat.eq_or_lt_of_le hb with g | g
    · subst g; exact hk hg
    · exact h2 b g hg
  · refine Or.inr ⟨b, h1, by omega, h3, h4, fun z hz hg hm => ?_⟩
    rcases Nat.eq_or_lt_of_le hz with g | g
    · subst g; exact absurd hm (hk hg)
    · exact h5 z g hg hm
theorem zIL_new (hg : zBg F q = true) (hm : zRun F q = mo) : zIL F mo q (q : Int) := Or.inr ⟨q, rfl, Nat.le_refl _, hg, hm, fun _ hz _ _ => hz⟩
theorem zIL_rng (hF : zOk F) (h : zIL F mo q pl) : -1 ≤ pl ∧ pl ≤ 255 := by
  rcases h with ⟨h1, h2⟩ | ⟨b, h1, h2, h3, h4, h5⟩
  · omega
  · have := zBg_lt hF h3; omega
/-- where the longest run begins, an extent begins -/
theorem zm_max (hF : zOk F) (h1 : ∀ b, zRun F b ≤ mo) {b : Nat} (h2 : zRun F b = mo) (h3 : 1 ≤ mo) : zBg F b = true := by
  have hb : F b = true := by have := zRun_in (F := F) (b := b) (i := 0) (by omega); exact this
  refine zBg_iff.mpr ⟨hb, ?_⟩
  rcases Nat.eq_zero_or_pos b with g | g
  · exact Or.inl g
  · refine Or.inr ?_
    cases hp : F (b - 1) with
    | false => rfl
    | true =>
      have e := zRun_succ hF hp
      rw [show b - 1 + 1 = b by omega] at e
      have := h1 (b - 1)
      omega
theorem zIL_neg (hF : zOk F) (h : zIL F mo 0 pl) (hp : pl < 0) (hl : zsLargest F (mo : Int)) : ∀ b, zBg F b = false := by
  intro b
  cases hb : zBg F b with
  | false => rfl
  | true =>
    exfalso
    obtain ⟨m', e, h1, h2⟩ := hl
    have e : m' = mo := by omega
    subst e
    have hpos := zBg_pos hF hb
    have hle := h1 b
    rcases h2 with h2 | ⟨z, h2⟩
    · omega
    · have hz := zm_max hF h1 h2 (by omega)
      rcases h with ⟨g1, g2⟩ | ⟨b', g1, g2, g3, g4, g5⟩
      · exact g2 z (Nat.zero_le _) hz h2
      · omega
theorem zIL_pos (hF : zOk F) (h : zIL F mo 0 pl) (hp : 0 ≤ pl) (hl : zsLargest F (mo : Int)) : ∃ b : Nat, pl = (b : Int) ∧ b < 256 ∧ zRun F b = mo ∧ zLg F b ∧ 1 ≤ mo := by
  obtain ⟨m', e, h1, h2⟩ := hl
  have e : m' = mo := by omega
  subst e
  rcases h with ⟨g1, g2⟩ | ⟨b', g1, g2, g3, g4, g5⟩
  · omega
  · refine ⟨b', g1, zBg_lt hF g3, g4, ⟨g3, fun z hz => ?_⟩, ?_⟩
    · have a := h1 z
      rcases Nat.lt_or_ge (zRun F z) (zRun F b') with w | w
      · exact Or.inl w
      · exact Or.inr ⟨by omega, g5 z (Nat.zero_le _) hz (by omega)⟩
    · have := zBg_pos hF g3; omega
theorem zPS_none (h : ∀ b, zBg F b = false) : ∀ (d : Nat) {n g r : Nat} {F9 : Nat → Bool}, zPS d F n g r F9 → r = g ∧ F9 = F := by
  intro d n g r F9 hz
  cases d with
  | zero => exact hz
  | succ d =>
    rcases hz with ⟨h1, h2, h3⟩ | ⟨h1, b, h2, h3⟩
    · exact ⟨h2, h3⟩
    · have := h2.1; rw [h b] at this; cases this
theorem zPS_spin (h : ∀ b, zBg F b = false) {d n g r : Nat} {F9 : Nat → Bool} (hz : zPS d F n g r F9) : zPS (d + 1) F n g r F9 := by
  obtain ⟨e1, e2⟩ := zPS_none h d hz
  exact Or.inl ⟨Or.inr h, e1, e2⟩
theorem zRun_far (F : Nat → Bool) {b : Nat} (h : 256 ≤ b) : zRun F b = 0 := by
  unfold zRun
  rw [show 256 - b = 0 by omega]
  rfl
theorem zm_ext (hF : zOk F) : zCt (zAl F ((1 : Nat) : Int)) 256 = zCt (zBg F) 256 := by
  refine zCt_congr 256 (fun b _ => ?_)
  unfold zAl
  cases hb : zBg F b with
  | false => rfl
  | true =>
    have := zBg_pos hF hb
    rw [decide_eq_true (by omega)]
    rfl
theorem zsSizeAt_nat {b : Nat} {r : Int} (h : zsSizeAt F (b : Int) r) (hb : b < 256) : zsSz F b r := by
  rcases h with ⟨h1, h2⟩ | ⟨z, h1, h2, h3⟩
  · omega
  · have e : z = b := by omega
    subst e
    exact h3
theorem zm_size (hF : zOk F) {f b : Nat} (hb : b < 256) (h1 : f ≤ b) (h2 : F b = true → ∀ y, f ≤ y → y ≤ b → F y = true) (h3 : F b = false → f = b) (h4 : F b = false ∨ f = 0 ∨ F (f - 1) = false) : zsSz F b ((zRun F f : Nat) : Int) := by
  cases hFb : F b with
  | false =>
    have e := h3 hFb
    subst e
    rw [zRun_0 hF hFb]
    exact Or.inl ⟨hFb, rfl⟩
  | true =>
    have hall := h2 hFb
    have hlt : b < f + zRun F f := by
      rcases Nat.lt_or_ge b (f + zRun F f) with g | g
      · exact g
      · have := hall (f + zRun F f) (by omega) g
        rw [zRun_end hF f] at this
        cases this
    refine Or.inr ⟨f, f + zRun F f, h1, hlt, fun z g1 g2 => ?_, ?_, zRun_end hF f, by omega⟩
    · have := zRun_in (F := F) (b := f) (i := z - f) (by omega)
      rw [show f + (z - f) = z by omega] at this
      exact this
    · rcases h4 with h4 | h4 | h4
      · rw [hFb] at h4; cases h4
      · exact Or.inl h4
      · exact Or.inr h4
-- bySize
theorem zKy_at {z : Nat} (hk : k < 256) : zKy F (z * 256 + k) = (zBg F k && decide (zRun F k = z)) := by
  unfold zKy
  rw [show (z * 256 + k) % 256 = k by omega, show (z * 256 + k) / 256 = z by omega]
theorem zKy_low (hF : zOk F) : zCt (zKy F) (1 * 256 + 0) = 0 := by
  refine zCt_zero _ (fun b hb => ?_)
  unfold zKy
  cases hg : zBg F (b % 256) with
  | false => rfl
  | true =>
    have := zBg_pos hF hg
    rw [decide_eq_false (by omega)]
    rfl
theorem zKy_lt {b : Nat} (h : zKy F b = true) : b < 257 * 256 := by
  unfold zKy at h
  rw [Bool.and_eq_true, decide_eq_true_iff] at h
  have := zRun_256 F (b % 256)
  omega
theorem zKy_ct (b : Nat) : zCt (zKy F) b ≤ 65792 := by
  rcases Nat.lt_or_ge b 65792 with g | g
  · have := zCt_le (zKy F) b; omega
  · have e : ∀ d, zCt (zKy F) (65792 + d) = zCt (zKy F) 65792 := by
      intro d
      induction d with
      | zero => rfl
      | succ d ih =>
        rw [show 65792 + (d + 1) = 65792 + d + 1 by omega, zCt_f, ih]
        cases hk : zKy F (65792 + d) with
        | false => rfl
        | true => have := zKy_lt hk; omega
    have := e (b - 65792)
    rw [show 65792 + (b - 65792) = b by omega] at this
    have := zCt_le (zKy F) 65792
    omega
end ZMo
end
section
set_option maxHeartbeats 4000000 in
set_option maxRecDepth 100000 in
theorem metX1_badBlock (l : Launch) (G : va_G) {g0 b1 : Nat} {dB : ClassId} {F : Nat → Bool} {b : Int} (hb0 : zIn b) : zRO l yX1_badBlock cX1_badBlock 2 (some .boolean) ({ frames := 0, cells := 0, slots := 0, locals := 0 } : Room) G (wM g0 b1 dB F) [(dB, .boolean)] [.ref g0, .int (zI b)] (fun r => zB (b < 0 ∨ 256 ≤ b) r) := by
  refine zro_enter (by decide) (Nat.le_of_ble_eq_true rfl) ?_
  intro p e s m below meth c hx hb hr hml hown hlocks hts hP hK ls hl
  have hown : s.vm.findClass RX1 = some m.cls := hown
  have hl : lv_has ls 2 [(0, .ref g0), (1, .int (zI b))] := hl
  refine lv_iload_n hx hb dX1_badBlock_0 rfl (lv_at hl 1 rfl) ?_
  refine zr_if_lt (tgt := 11) hx hb dX1_badBlock_1 (by decide) (by omega) (fun c1 => ?_) (fun c1 => ?_)
  · refine zr_iconstN 1 hx hb dX1_badBlock_11 rfl ?_
    refine lv_goto (tgt := 16) hx hb dX1_badBlock_12 (by decide) ?_
    exact zret_roz (v := zI ((1 : Nat) : Int)) hx hb hr hlocks dX1_badBlock_16 rfl (Or.inl ⟨rfl, by omega⟩)
  · refine lv_iload_n hx hb dX1_badBlock_4 rfl (lv_at hl 1 rfl) ?_
    refine zr_sipush ((255 : Nat) : Int) hx hb dX1_badBlock_5 (by decide) ?_
    refine zr_icmp_le (tgt := 15) hx hb dX1_badBlock_8 (by decide) (by omega) (fun c8 => ?_) (fun c8 => ?_)
    · refine zr_iconstN 0 hx hb dX1_badBlock_15 rfl ?_
      exact zret_roz (v := zI ((0 : Nat) : Int)) hx hb hr hlocks dX1_badBlock_16 rfl (Or.inr ⟨rfl, by omega⟩)
    · refine zr_iconstN 1 hx hb dX1_badBlock_11 rfl ?_
      refine lv_goto (tgt := 16) hx hb dX1_badBlock_12 (by decide) ?_
      exact zret_roz (v := zI ((1 : Nat) : Int)) hx hb hr hlocks dX1_badBlock_16 rfl (Or.inl ⟨rfl, by omega⟩)
set_option maxHeartbeats 4000000 in
set_option maxRecDepth 100000 in
theorem metX1_badSize (l : Launch) (G : va_G) {g0 b1 : Nat} {dB : ClassId} {F : Nat → Bool} {b : Int} (hb0 : zIn b) : zRO l yX1_badSize cX1_badSize 2 (some .boolean) ({ frames := 0, cells := 0, slots := 0, locals := 0 } : Room) G (wM g0 b1 dB F) [(dB, .boolean)] [.ref g0, .int (zI b)] (fun r => zB (b < 1 ∨ 256 < b) r) := by
  refine zro_enter (by decide) (Nat.le_of_ble_eq_true rfl) ?_
  intro p e s m below meth c hx hb hr hml hown hlocks hts hP hK ls hl
  have hown : s.vm.findClass RX1 = some m.cls := hown
  have hl : lv_has ls 2 [(0, .ref g0), (1, .int (zI b))] := hl
  refine lv_iload_n hx hb dX1_badSize_0 rfl (lv_at hl 1 rfl) ?_
  refine zr_iconstN 1 hx hb dX1_badSize_1 rfl ?_
  refine zr_icmp_lt (tgt := 12) hx hb dX1_badSize_2 (by decide) (by omega) (fun c2 => ?_) (fun c2 => ?_)
  · refine zr_iconstN 1 hx hb dX1_badSize_12 rfl ?_
    refine lv_goto (tgt := 17) hx hb dX1_badSize_13 (by decide) ?_
    exact zret_roz (v := zI ((1 : Nat) : Int)) hx hb hr hlocks dX1_badSize_17 rfl (Or.inl ⟨rfl, by omega⟩)
  · refine lv_iload_n hx hb dX1_badSize_5 rfl (lv_at hl 1 rfl) ?_
    refine zr_sipush ((256 : Nat) : Int) hx hb dX1_badSize_6 (by decide) ?_
    refine zr_icmp_le (tgt := 16) hx hb dX1_badSize_9 (by decide) (by omega) (fun c9 => ?_) (fun c9 => ?_)
    · refine zr_iconstN 0 hx hb dX1_badSize_16 rfl ?_
      exact zret_roz (v := zI ((0 : Nat) : Int)) hx hb hr hlocks dX1_badSize_17 rfl (Or.inr ⟨rfl, by omega⟩)
    · refine zr_iconstN 1 hx hb dX1_badSize_12 rfl ?_
      refine lv_goto (tgt := 17) hx hb dX1_badSize_13 (by decide) ?_
      exact zret_roz (v := zI ((1 : Nat) : Int)) hx hb hr hlocks dX1_badSize_17 rfl (Or.inl ⟨rfl, by omega⟩)
set_option maxHeartbeats 4000000 in
set_option maxRecDepth 100000 in
theorem metX1_begins (l : Launch) (G : va_G) {g0 b1 : Nat} {dB : ClassId} {F : Nat → Bool} {x : Nat} (hx9 : x < 256) : zRO l yX1_begins cX1_begins 2 (some .boolean) ({ frames := 1, cells := 0, slots := 0, locals := 21 } : Room) G (wM g0 b1 dB F) [(dB, .boolean)] [.ref g0, .int (zI ((x : Nat) : Int))] (fun r => zB (zBg F x = true) r) := by
  refine zro_enter (by decide) (Nat.le_of_ble_eq_true rfl) ?_
  intro p e s m below meth c hx hb hr hml hown hlocks hts hP hK ls hl
  have hown : s.vm.findClass RX1 = some m.cls := hown
  have hl : lv_has ls 2 [(0, .ref g0), (1, .int (zI ((x : Nat) : Int)))] := hl
  refine lv_aload_n hx hb dX1_begins_0 rfl (lv_at hl 0 rfl) ?_
  refine lv_iload_n hx hb dX1_begins_1 rfl (lv_at hl 1 rfl) ?_
  refine zc_ro (n := 1) (As := [.int (zI ((x : Nat) : Int))]) (rest := []) ⟨hx, hb, hml, hown, hts⟩ (metX1_badBlock l G (b := ((x : Nat) : Int)) (by omega)) (lw_V q159 q161 qs9 q16 q162) ⟨rfl, rfl⟩ (by decide +kernel) ⟨Nat.le_of_ble_eq_true rfl, Nat.le_of_ble_eq_true rfl⟩ hK hP 0 1 rfl rfl rfl rfl rfl hl (Nat.le_of_ble_eq_true rfl) ⟨Nat.zero_le _, Nat.zero_le _⟩ dX1_begins_2 (fun r2 h2 => ?_)
  rcases h2 with ⟨er2, h2⟩ | ⟨er2, h2⟩
  · subst er2
    exfalso; omega
  · subst er2
    refine zr_if_ne (tgt := 17) hx hb dX1_begins_5 (by decide) (by omega) (fun c5 => by exfalso; omega) (fun c5 => ?_)
    refine lv_aload_n hx hb dX1_begins_8 rfl (lv_at hl 0 rfl) ?_
    refine va_get (D := G) (ci := 1) (v := .ref b1) (C := RX1) (T := TX1) (N := 1) hx hb hts in_X1 hown hK hP 0 rfl rfl 0 (by decide) (hts _ q142) (fun _ h9 => h9) rfl dX1_begins_9 ?_
    refine lv_iload_n hx hb dX1_begins_12 rfl (lv_at hl 1 rfl) ?_
    refine zr_zald hx hb hK hP 1 0 rfl rfl x rfl (by omega) (by decide) dX1_begins_13 (fun c13 => ?_) (fun c13 => ?_)
    · refine zr_if_eq (tgt := 19) hx hb dX1_begins_14 (by decide) (by omega) (fun c14 => ?_) (fun c14 => by exfalso; omega)
      refine lv_iload_n hx hb dX1_begins_19 rfl (lv_at hl 1 rfl) ?_
      refine zr_if_eq (tgt := 34) hx hb dX1_begins_20 (by decide) (by omega) (fun c20 => ?_) (fun c20 => ?_)
      · refine zr_iconstN 1 hx hb dX1_begins_34 rfl ?_
        refine lv_goto (tgt := 39) hx hb dX1_begins_35 (by decide) ?_
        exact zret_roz (v := zI ((1 : Nat) : Int)) hx hb hr hlocks dX1_begins_39 rfl (Or.inl ⟨rfl, zBg_iff.mpr ⟨c13, Or.inl (by omega)⟩⟩)
      · refine lv_aload_n hx hb dX1_begins_23 rfl (lv_at hl 0 rfl) ?_
        refine va_get (D := G) (ci := 1) (v := .ref b1) (C := RX1) (T := TX1) (N := 1) hx hb hts in_X1 hown hK hP 0 rfl rfl 0 (by decide) (hts _ q142) (fun _ h9 => h9) rfl dX1_begins_24 ?_
        refine lv_iload_n hx hb dX1_begins_27 rfl (lv_at hl 1 rfl) ?_
        refine zr_iconstN 1 hx hb dX1_begins_28 rfl ?_
        refine zr_isubN hx hb (by omega) dX1_begins_29 ?_
        refine zr_zald hx hb hK hP 1 0 rfl rfl (x - 1) rfl (by omega) (by decide) dX1_begins_30 (fun c30 => ?_) (fun c30 => ?_)
        · refine zr_if_eq (tgt := 38) hx hb dX1_begins_31 (by decide) (by omega) (fun c31 => ?_) (fun c31 => by exfalso; omega)
          refine zr_iconstN 0 hx hb dX1_begins_38 rfl ?_
          exact zret_roz (v := zI ((0 : Nat) : Int)) hx hb hr hlocks dX1_begins_39 rfl (Or.inr ⟨rfl, fun hz => (zBg_iff.mp hz).2.elim (fun q => by omega) (fun q => by rw [c30] at q; cases q)⟩)
        · refine zr_if_eq (tgt := 38) hx hb dX1_begins_31 (by decide) (by omega) (fun c31 => by exfalso; omega) (fun c31 => ?_)
          refine zr_iconstN 1 hx hb dX1_begins_34 rfl ?_
          refine lv_goto (tgt := 39) hx hb dX1_begins_35 (by decide) ?_
          exact zret_roz (v := zI ((1 : Nat) : Int)) hx hb hr hlocks dX1_begins_39 rfl (Or.inl ⟨rfl, zBg_iff.mpr ⟨c13, Or.inr c30⟩⟩)
    · refine zr_if_eq (tgt := 19) hx hb dX1_begins_14 (by decide) (by omega) (fun c14 => by exfalso; omega) (fun c14 => ?_)
      refine zr_iconstN 0 hx hb dX1_begins_17 rfl ?_
      exact zret_roz (v := zI ((0 : Nat) : Int)) hx hb hr hlocks dX1_begins_18 rfl (Or.inr ⟨rfl, fun hz => by have z := (zBg_iff.mp hz).1; rw [c13] at z; cases z⟩)
set_option maxHeartbeats 4000000 in
set_option maxRecDepth 100000 in
theorem lpX1_run {p : Program} {l : Launch} {e : Env} {R : Room} {s : State} {m : MethodId} {args : Array Value} {below : List Frame} {meth : Method} {c : Code} {cells slots : Nat} {Q : State → Prop} {G : va_G} {H : Heap} {locs : List Loc} {g0 b1 : Nat} {dB : ClassId} {F : Nat → Bool} {x : Nat} (hx : p.tables.exec = Jvm.exec) (hb : c.code = cX1_run) (hown : s.vm.findClass RX1 = some m.cls) (hts : ∀ w ∈ lw_all, w.before args s = true) (hK : va_K G vwCl [(dB, .boolean)] s)  (hP : va_P G vwCl (wM g0 b1 dB F) H) (hF : zOk F)
    (kx : ∀ (k : Nat) (ls : Array Slot), zRun F x = k →  lv_has ls 4 [(0, .ref g0), (1, .int (zI ((x : Nat) : Int))), (2, .int (zI ((k : Nat) : Int)))] → W p l e R s m args below meth c H locs cells slots Q (F0 m 31 ls []))
    (kr : ∀ (k : Nat) (ls : Array Slot), zRun F x = k →  lv_has ls 4 [(0, .ref g0), (1, .int (zI ((x : Nat) : Int))), (2, .int (zI ((k : Nat) : Int)))] → W p l e R s m args below meth c H locs cells slots Q (F0 m 20 ls [])) :
    ∀ (d : Nat) (k : Nat) (ls : Array Slot), 256 - (x + k) < d → x + k ≤ 256 → (∀ z, z < k → F (x + z) = true) →  lv_has ls 4 [(0, .ref g0), (1, .int (zI ((x : Nat) : Int))), (2, .int (zI ((k : Nat) : Int))), (3, .int (zI ((x + k : Nat) : Int)))] → W p l e R s m args below meth c H locs cells slots Q (F0 m 4 ls []) := by
  intro d
  induction d with
  | zero => intro k ls h; exact absurd h (Nat.not_lt_zero _)
  | succ d ih =>
    intro k ls hd h1 h2 hl
    refine lv_iload_n hx hb dX1_run_4 rfl (lv_at hl 3 rfl) ?_
    refine zr_sipush ((256 : Nat) : Int) hx hb dX1_run_5 (by decide) ?_
    refine zr_icmp_ge (tgt := 31) hx hb dX1_run_8 (by decide) (by omega) (fun c8 => ?_) (fun c8 => ?_)
    · exact kx k ls (zRun_eq hF h2 (hF _ (by omega))) (lv_sub hl [0, 1, 2] rfl)
    · refine lv_aload_n hx hb dX1_run_11 rfl (lv_at hl 0 rfl) ?_
      refine va_get (D := G) (ci := 1) (v := .ref b1) (C := RX1) (T := TX1) (N := 1) hx hb hts in_X1 hown hK hP 0 rfl rfl 0 (by decide) (hts _ q142) (fun _ h9 => h9) rfl dX1_run_12 ?_
      refine lv_iload_n hx hb dX1_run_15 rfl (lv_at hl 3 rfl) ?_
      refine zr_zald hx hb hK hP 1 0 rfl rfl (x + k) rfl (by omega) (by decide) dX1_run_16 (fun c16 => ?_) (fun c16 => ?_)
      · refine zr_if_eq (tgt := 22) hx hb dX1_run_17 (by decide) (by omega) (fun c17 => ?_) (fun c17 => by exfalso; omega)
        refine zr_iinc hx hb ((k + 1 : Nat) : Int) (lv' := [(2, .int (zI ((k + 1 : Nat) : Int))), (0, .ref g0), (1, .int (zI ((x : Nat) : Int))), (3, .int (zI ((x + k : Nat) : Int)))]) dX1_run_22 hl (k := 2) rfl (by omega) (by decide) rfl (fun ls hl => ?_)
        refine zr_iinc hx hb ((x + (k + 1) : Nat) : Int) (lv' := [(3, .int (zI ((x + (k + 1) : Nat) : Int))), (2, .int (zI ((k + 1 : Nat) : Int))), (0, .ref g0), (1, .int (zI ((x : Nat) : Int)))]) dX1_run_25 hl (k := 3) rfl (by omega) (by decide) rfl (fun ls hl => ?_)
        refine lv_goto (tgt := 4) hx hb dX1_run_28 (by decide) ?_
        refine ih (k + 1) ls (by omega) (by omega) (fun z hz => ?_) (lv_sub hl [2, 3, 1, 0] rfl)
        rcases Nat.lt_or_ge z k with q | q
        · exact h2 z q
        · rw [show z = k by omega]; exact c16
      · refine zr_if_eq (tgt := 22) hx hb dX1_run_17 (by decide) (by omega) (fun c17 => by exfalso; omega) (fun c17 => ?_)
        exact kr k ls (zRun_eq hF h2 c16) (lv_sub hl [0, 1, 2] rfl)
set_option maxHeartbeats 4000000 in
set_option maxRecDepth 100000 in
theorem metX1_run (l : Launch) (G : va_G) {g0 b1 : Nat} {dB : ClassId} {F : Nat → Bool} (hF : zOk F) {x : Nat} (hx9 : x ≤ 256) : zRO l yX1_run cX1_run 4 (some .int) ({ frames := 0, cells := 0, slots := 0, locals := 0 } : Room) G (wM g0 b1 dB F) [(dB, .boolean)] [.ref g0, .int (zI ((x : Nat) : Int))] (fun r => r = zI ((zRun F x : Nat) : Int)) := by
  refine zro_enter (by decide) (Nat.le_of_ble_eq_true rfl) ?_
  intro p e s m below meth c hx hb hr hml hown hlocks hts hP hK ls hl
  have hown : s.vm.findClass RX1 = some m.cls := hown
  have hl : lv_has ls 4 [(0, .ref g0), (1, .int (zI ((x : Nat) : Int)))] := hl
  refine zr_iconstN 0 hx hb dX1_run_0 rfl ?_
  refine lv_istore_n (lv' := [(2, .int (zI ((0 : Nat) : Int))), (0, .ref g0), (1, .int (zI ((x : Nat) : Int)))]) hx hb dX1_run_1 rfl hl (by decide) rfl (fun ls hl => ?_)
  refine lv_iload_n hx hb dX1_run_2 rfl (lv_at hl 2 rfl) ?_
  refine lv_istore_n (lv' := [(3, .int (zI ((x : Nat) : Int))), (2, .int (zI ((0 : Nat) : Int))), (0, .ref g0), (1, .int (zI ((x : Nat) : Int)))]) hx hb dX1_run_3 rfl hl (by decide) rfl (fun ls hl => ?_)
  refine lpX1_run hx hb hown hts hK hP (x := x) hF (fun k ls hk hl => ?_) (fun k ls hk hl => ?_) 257 0 ls (by omega) (by omega) (fun z hz => absurd hz (Nat.not_lt_zero _)) (lv_sub hl [2, 3, 1, 0] rfl)
  · refine lv_iload_n hx hb dX1_run_31 rfl (lv_at hl 2 rfl) ?_
    exact zret_roi (v := zI ((k : Nat) : Int)) hx hb hr hlocks dX1_run_32 (by rw [hk])
  · refine lv_iload_n hx hb dX1_run_20 rfl (lv_at hl 2 rfl) ?_
    exact zret_roi (v := zI ((k : Nat) : Int)) hx hb hr hlocks dX1_run_21 (by rw [hk])
set_option maxHeartbeats 4000000 in
set_option maxRecDepth 100000 in
theorem metX1_away (l : Launch) (G : va_G) {g0 b1 : Nat} {dB : ClassId} {F : Nat → Bool} {x y : Nat} (hx9 : x ≤ 256) (hy9 : y ≤ 256) : zRO l yX1_away cX1_away 3 (some .int) ({ frames := 0, cells := 0, slots := 0, locals := 0 } : Room) G (wM g0 b1 dB F) [(dB, .boolean)] [.ref g0, .int (zI ((x : Nat) : Int)), .int (zI ((y : Nat) : Int))] (fun r => r = zI ((zAw x y : Nat) : Int)) := by
  refine zro_enter (by decide) (Nat.le_of_ble_eq_true rfl) ?_
  intro p e s m below meth c hx hb hr hml hown hlocks hts hP hK ls hl
  have hown : s.vm.findClass RX1 = some m.cls := hown
  have hl : lv_has ls 3 [(0, .ref g0), (1, .int (zI ((x : Nat) : Int))), (2, .int (zI ((y : Nat) : Int)))] := hl
  refine lv_iload_n hx hb dX1_away_0 rfl (lv_at hl 1 rfl) ?_
  refine lv_iload_n hx hb dX1_away_1 rfl (lv_at hl 2 rfl) ?_
  refine zr_icmp_ge (tgt := 11) hx hb dX1_away_2 (by decide) (by omega) (fun c2 => ?_) (fun c2 => ?_)
  · refine lv_iload_n hx hb dX1_away_11 rfl (lv_at hl 1 rfl) ?_
    refine lv_iload_n hx hb dX1_away_12 rfl (lv_at hl 2 rfl) ?_
    refine zr_isubN hx hb (by omega) dX1_away_13 ?_
    exact zret_roi (v := zI ((x - y : Nat) : Int)) hx hb hr hlocks dX1_away_14 (congrArg (fun z : Nat => zI (z : Int)) (by unfold zAw; omega))
  · refine lv_iload_n hx hb dX1_away_5 rfl (lv_at hl 2 rfl) ?_
    refine lv_iload_n hx hb dX1_away_6 rfl (lv_at hl 1 rfl) ?_
    refine zr_isubN hx hb (by omega) dX1_away_7 ?_
    refine lv_goto (tgt := 14) hx hb dX1_away_8 (by decide) ?_
    exact zret_roi (v := zI ((y - x : Nat) : Int)) hx hb hr hlocks dX1_away_14 (congrArg (fun z : Nat => zI (z : Int)) (by unfold zAw; omega))
set_option maxHeartbeats 4000000 in
set_option maxRecDepth 100000 in
theorem metX1_refusal (l : Launch) (G : va_G) {g0 b1 : Nat} {dB : ClassId} {F : Nat → Bool} {a b : Int} (ha0 : zIn a) (hb0 : zIn b) : zRO l yX1_refusal cX1_refusal 3 (some .int) ({ frames := 1, cells := 0, slots := 0, locals := 21 } : Room) G (wM g0 b1 dB F) [(dB, .boolean)] [.ref g0, .int (zI a), .int (zI b)] (fun r => (r = zI (-1) ∧ (a < 0 ∨ 256 ≤ a)) ∨ (r = zI (-2) ∧ 0 ≤ a ∧ a < 256 ∧ (b < 1 ∨ 256 < a + b)) ∨ (r = zI 0 ∧ 0 ≤ a ∧ a < 256 ∧ 1 ≤ b ∧ a + b ≤ 256)) := by
  refine zro_enter (by decide) (Nat.le_of_ble_eq_true rfl) ?_
  intro p e s m below meth c hx hb hr hml hown hlocks hts hP hK ls hl
  have hown : s.vm.findClass RX1 = some m.cls := hown
  have hl : lv_has ls 3 [(0, .ref g0), (1, .int (zI a)), (2, .int (zI b))] := hl
  refine lv_aload_n hx hb dX1_refusal_0 rfl (lv_at hl 0 rfl) ?_
  refine lv_iload_n hx hb dX1_refusal_1 rfl (lv_at hl 1 rfl) ?_
  refine zc_ro (n := 1) (As := [.int (zI a)]) (rest := []) ⟨hx, hb, hml, hown, hts⟩ (metX1_badBlock l G ha0) (lw_V q159 q161 qs9 q16 q162) ⟨rfl, rfl⟩ (by decide +kernel) ⟨Nat.le_of_ble_eq_true rfl, Nat.le_of_ble_eq_true rfl⟩ hK hP 0 1 rfl rfl rfl rfl rfl hl (Nat.le_of_ble_eq_true rfl) ⟨Nat.zero_le _, Nat.zero_le _⟩ dX1_refusal_2 (fun r2 h2 => ?_)
  rcases h2 with ⟨er2, h2⟩ | ⟨er2, h2⟩
  · subst er2
    refine zr_if_eq (tgt := 10) hx hb dX1_refusal_5 (by decide) (by omega) (fun c5 => by exfalso; omega) (fun c5 => ?_)
    refine zr_iconst hx hb dX1_refusal_8 ?_
    exact zret_roi (v := zI (-1)) hx hb hr hlocks dX1_refusal_9 (Or.inl ⟨rfl, h2⟩)
  · subst er2
    refine zr_if_eq (tgt := 10) hx hb dX1_refusal_5 (by decide) (by omega) (fun c5 => ?_) (fun c5 => by exfalso; omega)
    refine lv_aload_n hx hb dX1_refusal_10 rfl (lv_at hl 0 rfl) ?_
    refine lv_iload_n hx hb dX1_refusal_11 rfl (lv_at hl 2 rfl) ?_
    refine zc_ro (n := 1) (As := [.int (zI b)]) (rest := []) ⟨hx, hb, hml, hown, hts⟩ (metX1_badSize l G hb0) (lw_V q151 q153 qs7 q16 q154) ⟨rfl, rfl⟩ (by decide +kernel) ⟨Nat.le_of_ble_eq_true rfl, Nat.le_of_ble_eq_true rfl⟩ hK hP 0 1 rfl rfl rfl rfl rfl hl (Nat.le_of_ble_eq_true rfl) ⟨Nat.zero_le _, Nat.zero_le _⟩ dX1_refusal_12 (fun r12 h12 => ?_)
    rcases h12 with ⟨er12, h12⟩ | ⟨er12, h12⟩
    · subst er12
      refine zr_if_ne (tgt := 27) hx hb dX1_refusal_15 (by decide) (by omega) (fun c15 => ?_) (fun c15 => by exfalso; omega)
      refine zr_bipush (-2) hx hb dX1_refusal_27 (by decide) ?_
      refine lv_goto (tgt := 33) hx hb dX1_refusal_29 (by decide) ?_
      exact zret_roi (v := zI (-2)) hx hb hr hlocks dX1_refusal_33 (Or.inr (Or.inl ⟨rfl, by omega, by omega, by omega⟩))
    · subst er12
      refine zr_if_ne (tgt := 27) hx hb dX1_refusal_15 (by decide) (by omega) (fun c15 => by exfalso; omega) (fun c15 => ?_)
      refine lv_iload_n hx hb dX1_refusal_18 rfl (lv_at hl 2 rfl) ?_
      refine zr_sipush ((256 : Nat) : Int) hx hb dX1_refusal_19 (by decide) ?_
      refine lv_iload_n hx hb dX1_refusal_22 rfl (lv_at hl 1 rfl) ?_
      refine zr_isub hx hb dX1_refusal_23 ?_
      refine zr_icmp_le (tgt := 32) hx hb dX1_refusal_24 (by decide) (by omega) (fun c24 => ?_) (fun c24 => ?_)
      · refine zr_iconstN 0 hx hb dX1_refusal_32 rfl ?_
        exact zret_roi (v := zI ((0 : Nat) : Int)) hx hb hr hlocks dX1_refusal_33 (Or.inr (Or.inr ⟨rfl, by omega, by omega, by omega, by omega⟩))
      · refine zr_bipush (-2) hx hb dX1_refusal_27 (by decide) ?_
        refine lv_goto (tgt := 33) hx hb dX1_refusal_29 (by decide) ?_
        exact zret_roi (v := zI (-2)) hx hb hr hlocks dX1_refusal_33 (Or.inr (Or.inl ⟨rfl, by omega, by omega, by omega⟩))
set_option maxHeartbeats 4000000 in
set_option maxRecDepth 100000 in
theorem metX1_free (l : Launch) (G : va_G) {g0 b1 : Nat} {dB : ClassId} {F : Nat → Bool} (hF : zOk F) {b : Int} (hb0 : zIn b) : zRO l yX1_free cX1_free 2 (some .boolean) ({ frames := 1, cells := 0, slots := 0, locals := 21 } : Room) G (wM g0 b1 dB F) [(dB, .boolean)] [.ref g0, .int (zI b)] (fun r => zB (zFr F b) r) := by
  refine zro_enter (by decide) (Nat.le_of_ble_eq_true rfl) ?_
  intro p e s m below meth c hx hb hr hml hown hlocks hts hP hK ls hl
  have hown : s.vm.findClass RX1 = some m.cls := hown
  have hl : lv_has ls 2 [(0, .ref g0), (1, .int (zI b))] := hl
  refine lv_aload_n hx hb dX1_free_0 rfl (lv_at hl 0 rfl) ?_
  refine lv_iload_n hx hb dX1_free_1 rfl (lv_at hl 1 rfl) ?_
  refine zc_ro (n := 1) (As := [.int (zI b)]) (rest := []) ⟨hx, hb, hml, hown, hts⟩ (metX1_badBlock l G hb0) (lw_V q159 q161 qs9 q16 q162) ⟨rfl, rfl⟩ (by decide +kernel) ⟨Nat.le_of_ble_eq_true rfl, Nat.le_of_ble_eq_true rfl⟩ hK hP 0 1 rfl rfl rfl rfl rfl hl (Nat.le_of_ble_eq_true rfl) ⟨Nat.zero_le _, Nat.zero_le _⟩ dX1_free_2 (fun r2 h2 => ?_)
  rcases h2 with ⟨er2, h2⟩ | ⟨er2, h2⟩
  · subst er2
    refine zr_if_ne (tgt := 21) hx hb dX1_free_5 (by decide) (by omega) (fun c5 => ?_) (fun c5 => by exfalso; omega)
    refine zr_iconstN 0 hx hb dX1_free_21 rfl ?_
    exact zret_roz (v := zI ((0 : Nat) : Int)) hx hb hr hlocks dX1_free_22 rfl (Or.inr ⟨rfl, fun hz => by have z1 := hz.1; have z2 := hz.2.1; omega⟩)
  · subst er2
    refine zr_if_ne (tgt := 21) hx hb dX1_free_5 (by decide) (by omega) (fun c5 => by exfalso; omega) (fun c5 => ?_)
    obtain ⟨x, rfl⟩ := Int.eq_ofNat_of_zero_le (show 0 ≤ b by omega)
    refine lv_aload_n hx hb dX1_free_8 rfl (lv_at hl 0 rfl) ?_
    refine va_get (D := G) (ci := 1) (v := .ref b1) (C := RX1) (T := TX1) (N := 1) hx hb hts in_X1 hown hK hP 0 rfl rfl 0 (by decide) (hts _ q142) (fun _ h9 => h9) rfl dX1_free_9 ?_
    refine lv_iload_n hx hb dX1_free_12 rfl (lv_at hl 1 rfl) ?_
    refine zr_zald hx hb hK hP 1 0 rfl rfl x rfl (by omega) (by decide) dX1_free_13 (fun c13 => ?_) (fun c13 => ?_)
    · refine zr_if_ne (tgt := 21) hx hb dX1_free_14 (by decide) (by omega) (fun c14 => by exfalso; omega) (fun c14 => ?_)
      refine zr_iconstN 1 hx hb dX1_free_17 rfl ?_
      refine lv_goto (tgt := 22) hx hb dX1_free_18 (by decide) ?_
      exact zret_roz (v := zI ((1 : Nat) : Int)) hx hb hr hlocks dX1_free_22 rfl (Or.inl ⟨rfl, by omega, by omega, by rw [Int.toNat_natCast]; exact c13⟩)
    · refine zr_if_ne (tgt := 21) hx hb dX1_free_14 (by decide) (by omega) (fun c14 => ?_) (fun c14 => by exfalso; omega)
      refine zr_iconstN 0 hx hb dX1_free_21 rfl ?_
      exact zret_roz (v := zI ((0 : Nat) : Int)) hx hb hr hlocks dX1_free_22 rfl (Or.inr ⟨rfl, fun hz => by have z1 := hz.2.2; rw [Int.toNat_natCast, c13] at z1; cases z1⟩)
set_option maxHeartbeats 4000000 in
set_option maxRecDepth 100000 in
theorem lpX1_freeBlocks {p : Program} {l : Launch} {e : Env} {R : Room} {s : State} {m : MethodId} {args : Array Value} {below : List Frame} {meth : Method} {c : Code} {cells slots : Nat} {Q : State → Prop} {G : va_G} {H : Heap} {locs : List Loc} {g0 b1 : Nat} {dB : ClassId} {F : Nat → Bool}  (hx : p.tables.exec = Jvm.exec) (hb : c.code = cX1_freeBlocks) (hown : s.vm.findClass RX1 = some m.cls) (hts : ∀ w ∈ lw_all, w.before args s = true) (hK : va_K G vwCl [(dB, .boolean)] s)  (hP : va_P G vwCl (wM g0 b1 dB F) H) 
    (kx : ∀  (ls : Array Slot),  lv_has ls 3 [(0, .ref g0), (1, .int (zI ((zCt F 256 : Nat) : Int)))] → W p l e R s m args below meth c H locs cells slots Q (F0 m 29 ls [])) :
    ∀ (d : Nat) (k : Nat) (ls : Array Slot), 256 - k < d → k ≤ 256 →  lv_has ls 3 [(0, .ref g0), (1, .int (zI ((zCt F k : Nat) : Int))), (2, .int (zI ((k : Nat) : Int)))] → W p l e R s m args below meth c H locs cells slots Q (F0 m 4 ls []) := by
  intro d
  induction d with
  | zero => intro k ls h; exact absurd h (Nat.not_lt_zero _)
  | succ d ih =>
    intro k ls hd h1 hl
    have hct := zCt_le F k
    refine lv_iload_n hx hb dX1_freeBlocks_4 rfl (lv_at hl 2 rfl) ?_
    refine zr_sipush ((256 : Nat) : Int) hx hb dX1_freeBlocks_5 (by decide) ?_
    refine zr_icmp_ge (tgt := 29) hx hb dX1_freeBlocks_8 (by decide) (by omega) (fun c8 => ?_) (fun c8 => ?_)
    · have e9 : k = 256 := by omega
      subst e9
      exact kx ls (lv_sub hl [0, 1] rfl)
    · refine lv_aload_n hx hb dX1_freeBlocks_11 rfl (lv_at hl 0 rfl) ?_
      refine va_get (D := G) (ci := 1) (v := .ref b1) (C := RX1) (T := TX1) (N := 1) hx hb hts in_X1 hown hK hP 0 rfl rfl 0 (by decide) (hts _ q142) (fun _ h9 => h9) rfl dX1_freeBlocks_12 ?_
      refine lv_iload_n hx hb dX1_freeBlocks_15 rfl (lv_at hl 2 rfl) ?_
      refine zr_zald hx hb hK hP 1 0 rfl rfl k rfl (by omega) (by decide) dX1_freeBlocks_16 (fun c16 => ?_) (fun c16 => ?_)
      · refine zr_if_ne (tgt := 23) hx hb dX1_freeBlocks_17 (by decide) (by omega) (fun c17 => by exfalso; omega) (fun c17 => ?_)
        refine zr_iinc hx hb (((zCt F k) + 1 : Nat) : Int) (lv' := [(1, .int (zI (((zCt F k) + 1 : Nat) : Int))), (0, .ref g0), (2, .int (zI ((k : Nat) : Int)))]) dX1_freeBlocks_20 hl (k := 1) rfl (by omega) (by decide) rfl (fun ls hl => ?_)
        refine zr_iinc hx hb ((k + 1 : Nat) : Int) (lv' := [(2, .int (zI ((k + 1 : Nat) : Int))), (1, .int (zI (((zCt F k) + 1 : Nat) : Int))), (0, .ref g0)]) dX1_freeBlocks_23 hl (k := 2) rfl (by omega) (by decide) rfl (fun ls hl => ?_)
        refine lv_goto (tgt := 4) hx hb dX1_freeBlocks_26 (by decide) ?_
        rw [← zCt_t c16] at hl
        exact ih (k + 1) ls (by omega) (by omega) (lv_sub hl [2, 1, 0] rfl)
      · refine zr_if_ne (tgt := 23) hx hb dX1_freeBlocks_17 (by decide) (by omega) (fun c17 => ?_) (fun c17 => by exfalso; omega)
        refine zr_iinc hx hb ((k + 1 : Nat) : Int) (lv' := [(2, .int (zI ((k + 1 : Nat) : Int))), (0, .ref g0), (1, .int (zI ((zCt F k : Nat) : Int)))]) dX1_freeBlocks_23 hl (k := 2) rfl (by omega) (by decide) rfl (fun ls hl => ?_)
        refine lv_goto (tgt := 4) hx hb dX1_freeBlocks_26 (by decide) ?_
        rw [← zCt_f c16] at hl
        exact ih (k + 1) ls (by omega) (by omega) (lv_sub hl [1, 2, 0] rfl)
set_option maxHeartbeats 4000000 in
set_option maxRecDepth 100000 in
theorem metX1_freeBlocks (l : Launch) (G : va_G) {g0 b1 : Nat} {dB : ClassId} {F : Nat → Bool} (hF : zOk F) : zRO l yX1_freeBlocks cX1_freeBlocks 3 (some .int) ({ frames := 0, cells := 0, slots := 0, locals := 0 } : Room) G (wM g0 b1 dB F) [(dB, .boolean)] [.ref g0] (fun r => r = zI ((zCt F 256 : Nat) : Int)) := by
  refine zro_enter (by decide) (Nat.le_of_ble_eq_true rfl) ?_
  intro p e s m below meth c hx hb hr hml hown hlocks hts hP hK ls hl
  have hown : s.vm.findClass RX1 = some m.cls := hown
  have hl : lv_has ls 3 [(0, .ref g0)] := hl
  refine zr_iconstN 0 hx hb dX1_freeBlocks_0 rfl ?_
  refine lv_istore_n (lv' := [(1, .int (zI ((0 : Nat) : Int))), (0, .ref g0)]) hx hb dX1_freeBlocks_1 rfl hl (by decide) rfl (fun ls hl => ?_)
  refine zr_iconstN 0 hx hb dX1_freeBlocks_2 rfl ?_
  refine lv_istore_n (lv' := [(2, .int (zI ((0 : Nat) : Int))), (1, .int (zI ((0 : Nat) : Int))), (0, .ref g0)]) hx hb dX1_freeBlocks_3 rfl hl (by decide) rfl (fun ls hl => ?_)
  refine lpX1_freeBlocks hx hb hown hts hK hP (fun ls hl => ?_) 257 0 ls (by omega) (by omega) (lv_sub hl [2, 1, 0] rfl)
  refine lv_iload_n hx hb dX1_freeBlocks_29 rfl (lv_at hl 1 rfl) ?_
  exact zret_roi (v := zI ((zCt F 256 : Nat) : Int)) hx hb hr hlocks dX1_freeBlocks_30 rfl
set_option maxHeartbeats 4000000 in
set_option maxRecDepth 100000 in
theorem lpX1_atLeast {p : Program} {l : Launch} {e : Env} {R : Room} {s : State} {m : MethodId} {args : Array Value} {below : List Frame} {meth : Method} {c : Code} {cells slots : Nat} {Q : State → Prop} {G : va_G} {H : Heap} {locs : List Loc} {g0 b1 : Nat} {dB : ClassId} {F : Nat → Bool} {b : Int} (hx : p.tables.exec = Jvm.exec) (hb : c.code = cX1_atLeast) (hown : s.vm.findClass RX1 = some m.cls) (hts : ∀ w ∈ lw_all, w.before args s = true) (hK : va_K G vwCl [(dB, .boolean)] s) (hml : c.maxLocals = 4) (hRf : 2 ≤ R.frames) (hRl : 42 ≤ R.locals) (hcs : cells ≤ R.cells ∧ slots ≤ R.slots) (hP : va_P G vwCl (wM g0 b1 dB F) H) (hF : zOk F) (hb0 : zIn b)
    (kx : ∀  (ls : Array Slot),  lv_has ls 4 [(0, .ref g0), (1, .int (zI b)), (2, .int (zI ((zCt (zAl F b) 256 : Nat) : Int)))] → W p l e R s m args below meth c H locs cells slots Q (F0 m 37 ls [])) :
    ∀ (d : Nat) (k : Nat) (ls : Array Slot), 256 - k < d → k ≤ 256 →  lv_has ls 4 [(0, .ref g0), (1, .int (zI b)), (2, .int (zI ((zCt (zAl F b) k : Nat) : Int))), (3, .int (zI ((k : Nat) : Int)))] → W p l e R s m args below meth c H locs cells slots Q (F0 m 4 ls []) := by
  intro d
  induction d with
  | zero => intro k ls h; exact absurd h (Nat.not_lt_zero _)
  | succ d ih =>
    intro k ls hd h1 hl
    have hct := zCt_le (zAl F b) k
    refine lv_iload_n hx hb dX1_atLeast_4 rfl (lv_at hl 3 rfl) ?_
    refine zr_sipush ((256 : Nat) : Int) hx hb dX1_atLeast_5 (by decide) ?_
    refine zr_icmp_ge (tgt := 37) hx hb dX1_atLeast_8 (by decide) (by omega) (fun c8 => ?_) (fun c8 => ?_)
    · have e9 : k = 256 := by omega
      subst e9
      exact kx ls (lv_sub hl [0, 1, 2] rfl)
    · refine lv_aload_n hx hb dX1_atLeast_11 rfl (lv_at hl 0 rfl) ?_
      refine lv_iload_n hx hb dX1_atLeast_12 rfl (lv_at hl 3 rfl) ?_
      refine zc_ro (n := 1) (As := [.int (zI ((k : Nat) : Int))]) (rest := []) ⟨hx, hb, hml, hown, hts⟩ (metX1_begins l G (x := k) (by omega)) (lw_V q155 q157 qs8 q16 q158) ⟨rfl, rfl⟩ (by decide +kernel) ⟨Nat.le_trans (by decide) hRf, Nat.le_trans (by decide) hRl⟩ hK hP 0 1 rfl rfl rfl rfl rfl hl (Nat.le_of_ble_eq_true rfl) hcs dX1_atLeast_13 (fun r13 h13 => ?_)
      rcases h13 with ⟨er13, h13⟩ | ⟨er13, h13⟩
      · subst er13
        refine zr_if_eq (tgt := 31) hx hb dX1_atLeast_16 (by decide) (by omega) (fun c16 => by exfalso; omega) (fun c16 => ?_)
        refine lv_aload_n hx hb dX1_atLeast_19 rfl (lv_at hl 0 rfl) ?_
        refine lv_iload_n hx hb dX1_atLeast_20 rfl (lv_at hl 3 rfl) ?_
        refine zc_ro (n := 1) (As := [.int (zI ((k : Nat) : Int))]) (rest := []) ⟨hx, hb, hml, hown, hts⟩ (metX1_run l G hF (x := k) (by omega)) (lw_V q163 q165 qs10 q16 q166) ⟨rfl, rfl⟩ (by decide +kernel) ⟨Nat.le_trans (by decide) hRf, Nat.le_trans (by decide) hRl⟩ hK hP 0 1 rfl rfl rfl rfl rfl hl (Nat.le_of_ble_eq_true rfl) hcs dX1_atLeast_21 (fun r21 h21 => ?_)
        subst h21
        have hr21 := zRun_256 F k
        refine lv_iload_n hx hb dX1_atLeast_24 rfl (lv_at hl 1 rfl) ?_
        refine zr_icmp_lt (tgt := 31) hx hb dX1_atLeast_25 (by decide) (by omega) (fun c25 => ?_) (fun c25 => ?_)
        · refine zr_iinc hx hb ((k + 1 : Nat) : Int) (lv' := [(3, .int (zI ((k + 1 : Nat) : Int))), (0, .ref g0), (1, .int (zI b)), (2, .int (zI ((zCt (zAl F b) k : Nat) : Int)))]) dX1_atLeast_31 hl (k := 3) rfl (by omega) (by decide) rfl (fun ls hl => ?_)
          refine lv_goto (tgt := 4) hx hb dX1_atLeast_34 (by decide) ?_
          have e8 : zAl F b k = false := by unfold zAl; rw [decide_eq_false (by omega)]; simp
          rw [← zCt_f e8] at hl
          exact ih (k + 1) ls (by omega) (by omega) (lv_sub hl [1, 2, 3, 0] rfl)
        · refine zr_iinc hx hb (((zCt (zAl F b) k) + 1 : Nat) : Int) (lv' := [(2, .int (zI (((zCt (zAl F b) k) + 1 : Nat) : Int))), (0, .ref g0), (1, .int (zI b)), (3, .int (zI ((k : Nat) : Int)))]) dX1_atLeast_28 hl (k := 2) rfl (by omega) (by decide) rfl (fun ls hl => ?_)
          refine zr_iinc hx hb ((k + 1 : Nat) : Int) (lv' := [(3, .int (zI ((k + 1 : Nat) : Int))), (2, .int (zI (((zCt (zAl F b) k) + 1 : Nat) : Int))), (0, .ref g0), (1, .int (zI b))]) dX1_atLeast_31 hl (k := 3) rfl (by omega) (by decide) rfl (fun ls hl => ?_)
          refine lv_goto (tgt := 4) hx hb dX1_atLeast_34 (by decide) ?_
          have e8 : zAl F b k = true := by unfold zAl; rw [h13, decide_eq_true (by omega)]; rfl
          rw [← zCt_t e8] at hl
          exact ih (k + 1) ls (by omega) (by omega) (lv_sub hl [2, 3, 1, 0] rfl)
      · subst er13
        refine zr_if_eq (tgt := 31) hx hb dX1_atLeast_16 (by decide) (by omega) (fun c16 => ?_) (fun c16 => by exfalso; omega)
        refine zr_iinc hx hb ((k + 1 : Nat) : Int) (lv' := [(3, .int (zI ((k + 1 : Nat) : Int))), (0, .ref g0), (1, .int (zI b)), (2, .int (zI ((zCt (zAl F b) k : Nat) : Int)))]) dX1_atLeast_31 hl (k := 3) rfl (by omega) (by decide) rfl (fun ls hl => ?_)
        refine lv_goto (tgt := 4) hx hb dX1_atLeast_34 (by decide) ?_
        have e8 : zAl F b k = false := by unfold zAl; cases hz : zBg F k with | false => rfl | true => exact absurd hz h13
        rw [← zCt_f e8] at hl
        exact ih (k + 1) ls (by omega) (by omega) (lv_sub hl [1, 2, 3, 0] rfl)
set_option maxHeartbeats 4000000 in
set_option maxRecDepth 100000 in
theorem metX1_atLeast (l : Launch) (G : va_G) {g0 b1 : Nat} {dB : ClassId} {F : Nat → Bool} (hF : zOk F) {b : Int} (hb0 : zIn b) : zRO l yX1_atLeast cX1_atLeast 4 (some .int) ({ frames := 2, cells := 0, slots := 0, locals := 42 } : Room) G (wM g0 b1 dB F) [(dB, .boolean)] [.ref g0, .int (zI b)] (fun r => r = zI ((zCt (zAl F b) 256 : Nat) : Int)) := by
  refine zro_enter (by decide) (Nat.le_of_ble_eq_true rfl) ?_
  intro p e s m below meth c hx hb hr hml hown hlocks hts hP hK ls hl
  have hown : s.vm.findClass RX1 = some m.cls := hown
  have hl : lv_has ls 4 [(0, .ref g0), (1, .int (zI b))] := hl
  refine zr_iconstN 0 hx hb dX1_atLeast_0 rfl ?_
  refine lv_istore_n (lv' := [(2, .int (zI ((0 : Nat) : Int))), (0, .ref g0), (1, .int (zI b))]) hx hb dX1_atLeast_1 rfl hl (by decide) rfl (fun ls hl => ?_)
  refine zr_iconstN 0 hx hb dX1_atLeast_2 rfl ?_
  refine lv_istore_n (lv' := [(3, .int (zI ((0 : Nat) : Int))), (2, .int (zI ((0 : Nat) : Int))), (0, .ref g0), (1, .int (zI b))]) hx hb dX1_atLeast_3 rfl hl (by decide) rfl (fun ls hl => ?_)
  refine lpX1_atLeast hx hb hown hts hK hml (Nat.le_of_ble_eq_true rfl) (Nat.le_of_ble_eq_true rfl) ⟨Nat.zero_le _, Nat.zero_le _⟩ hP hF hb0 (fun ls hl => ?_) 257 0 ls (by omega) (by omega) (lv_sub hl [2, 3, 1, 0] rfl)
  refine lv_iload_n hx hb dX1_atLeast_37 rfl (lv_at hl 2 rfl) ?_
  exact zret_roi (v := zI ((zCt (zAl F b) 256 : Nat) : Int)) hx hb hr hlocks dX1_atLeast_38 rfl
set_option maxHeartbeats 4000000 in
set_option maxRecDepth 100000 in
theorem metX1_extents (l : Launch) (G : va_G) {g0 b1 : Nat} {dB : ClassId} {F : Nat → Bool} (hF : zOk F) : zRO l yX1_extents cX1_extents 1 (some .int) ({ frames := 3, cells := 0, slots := 0, locals := 65 } : Room) G (wM g0 b1 dB F) [(dB, .boolean)] [.ref g0] (fun r => r = zI ((zCt (zBg F) 256 : Nat) : Int)) := by
  refine zro_enter (by decide) (Nat.le_of_ble_eq_true rfl) ?_
  intro p e s m below meth c hx hb hr hml hown hlocks hts hP hK ls hl
  have hown : s.vm.findClass RX1 = some m.cls := hown
  have hl : lv_has ls 1 [(0, .ref g0)] := hl
  refine lv_aload_n hx hb dX1_extents_0 rfl (lv_at hl 0 rfl) ?_
  refine zr_iconstN 1 hx hb dX1_extents_1 rfl ?_
  refine zc_ro (n := 1) (As := [.int (zI ((1 : Nat) : Int))]) (rest := []) ⟨hx, hb, hml, hown, hts⟩ (metX1_atLeast l G hF (b := ((1 : Nat) : Int)) (by omega)) (lw_V q191 q192 q193 q16 q194) ⟨rfl, rfl⟩ (by decide +kernel) ⟨Nat.le_of_ble_eq_true rfl, Nat.le_of_ble_eq_true rfl⟩ hK hP 0 1 rfl rfl rfl rfl rfl hl (Nat.le_of_ble_eq_true rfl) ⟨Nat.zero_le _, Nat.zero_le _⟩ dX1_extents_2 (fun r2 h2 => ?_)
  subst h2
  exact zret_roi (v := zI ((zCt (zAl F ((1 : Nat) : Int)) 256 : Nat) : Int)) hx hb hr hlocks dX1_extents_5 (by rw [zm_ext hF])
set_option maxHeartbeats 4000000 in
set_option maxRecDepth 100000 in
theorem lpX1_largest {p : Program} {l : Launch} {e : Env} {R : Room} {s : State} {m : MethodId} {args : Array Value} {below : List Frame} {meth : Method} {c : Code} {cells slots : Nat} {Q : State → Prop} {G : va_G} {H : Heap} {locs : List Loc} {g0 b1 : Nat} {dB : ClassId} {F : Nat → Bool}  (hx : p.tables.exec = Jvm.exec) (hb : c.code = cX1_largest) (hown : s.vm.findClass RX1 = some m.cls) (hts : ∀ w ∈ lw_all, w.before args s = true) (hK : va_K G vwCl [(dB, .boolean)] s) (hml : c.maxLocals = 4) (hRf : 1 ≤ R.frames) (hRl : 23 ≤ R.locals) (hcs : cells ≤ R.cells ∧ slots ≤ R.slots) (hP : va_P G vwCl (wM g0 b1 dB F) H) (hF : zOk F)
    (kx : ∀ (mo : Nat) (ls : Array Slot), mo ≤ 256 → zsLargest F ((mo : Nat) : Int) →  lv_has ls 4 [(0, .ref g0), (1, .int (zI ((mo : Nat) : Int)))] → W p l e R s m args below meth c H locs cells slots Q (F0 m 34 ls [])) :
    ∀ (d : Nat) (k : Nat) (mo : Nat) (ls : Array Slot), 256 - k < d → k ≤ 256 → mo ≤ 256 → (∀ z, z < k → zRun F z ≤ mo) → (mo = 0 ∨ ∃ b, zRun F b = mo) →  lv_has ls 4 [(0, .ref g0), (1, .int (zI ((mo : Nat) : Int))), (2, .int (zI ((k : Nat) : Int)))] → W p l e R s m args below meth c H locs cells slots Q (F0 m 4 ls []) := by
  intro d
  induction d with
  | zero => intro k mo ls h; exact absurd h (Nat.not_lt_zero _)
  | succ d ih =>
    intro k mo ls hd h1 h2 h3 h4 hl
    refine lv_iload_n hx hb dX1_largest_4 rfl (lv_at hl 2 rfl) ?_
    refine zr_sipush ((256 : Nat) : Int) hx hb dX1_largest_5 (by decide) ?_
    refine zr_icmp_ge (tgt := 34) hx hb dX1_largest_8 (by decide) (by omega) (fun c8 => ?_) (fun c8 => ?_)
    · refine kx mo ls h2 ⟨mo, rfl, fun z => ?_, h4⟩ (lv_sub hl [0, 1] rfl)
      rcases Nat.lt_or_ge z k with q | q
      · exact h3 z q
      · rw [zRun_far F (by omega)]; exact Nat.zero_le _
    · refine lv_aload_n hx hb dX1_largest_11 rfl (lv_at hl 0 rfl) ?_
      refine lv_iload_n hx hb dX1_largest_12 rfl (lv_at hl 2 rfl) ?_
      refine zc_ro (n := 1) (As := [.int (zI ((k : Nat) : Int))]) (rest := []) ⟨hx, hb, hml, hown, hts⟩ (metX1_run l G hF (x := k) (by omega)) (lw_V q163 q165 qs10 q16 q166) ⟨rfl, rfl⟩ (by decide +kernel) ⟨Nat.le_trans (by decide) hRf, Nat.le_trans (by decide) hRl⟩ hK hP 0 1 rfl rfl rfl rfl rfl hl (Nat.le_of_ble_eq_true rfl) hcs dX1_largest_13 (fun r13 h13 => ?_)
      subst h13
      have hr13 := zRun_256 F k
      refine lv_istore_n (lv' := [(3, .int (zI ((zRun F k : Nat) : Int))), (0, .ref g0), (1, .int (zI ((mo : Nat) : Int))), (2, .int (zI ((k : Nat) : Int)))]) hx hb dX1_largest_16 rfl hl (by decide) rfl (fun ls hl => ?_)
      refine lv_iload_n hx hb dX1_largest_17 rfl (lv_at hl 0 rfl) ?_
      refine lv_iload_n hx hb dX1_largest_18 rfl (lv_at hl 2 rfl) ?_
      refine zr_icmp_le (tgt := 26) hx hb dX1_largest_19 (by decide) (by omega) (fun c19 => ?_) (fun c19 => ?_)
      · refine lv_iload_n hx hb dX1_largest_26 rfl (lv_at hl 2 rfl) ?_
        refine lv_istore_n (lv' := [(1, .int (zI ((mo : Nat) : Int))), (3, .int (zI ((zRun F k : Nat) : Int))), (0, .ref g0), (2, .int (zI ((k : Nat) : Int)))]) hx hb dX1_largest_27 rfl hl (by decide) rfl (fun ls hl => ?_)
        refine zr_iinc hx hb ((k + 1 : Nat) : Int) (lv' := [(2, .int (zI ((k + 1 : Nat) : Int))), (1, .int (zI ((mo : Nat) : Int))), (3, .int (zI ((zRun F k : Nat) : Int))), (0, .ref g0)]) dX1_largest_28 hl (k := 3) rfl (by omega) (by decide) rfl (fun ls hl => ?_)
        refine lv_goto (tgt := 4) hx hb dX1_largest_31 (by decide) ?_
        refine ih (k + 1) mo ls (by omega) (by omega) (by omega) (fun z hz => ?_) h4 (lv_sub hl [3, 1, 0] rfl)
        rcases Nat.lt_or_ge z k with q | q
        · have := h3 z q; omega
        · rw [show z = k by omega]; omega
      · refine lv_iload_n hx hb dX1_largest_22 rfl (lv_at hl 0 rfl) ?_
        refine lv_goto (tgt := 27) hx hb dX1_largest_23 (by decide) ?_
        refine lv_istore_n (lv' := [(1, .int (zI ((zRun F k : Nat) : Int))), (3, .int (zI ((zRun F k : Nat) : Int))), (0, .ref g0), (2, .int (zI ((k : Nat) : Int)))]) hx hb dX1_largest_27 rfl hl (by decide) rfl (fun ls hl => ?_)
        refine zr_iinc hx hb ((k + 1 : Nat) : Int) (lv' := [(2, .int (zI ((k + 1 : Nat) : Int))), (1, .int (zI ((zRun F k : Nat) : Int))), (3, .int (zI ((zRun F k : Nat) : Int))), (0, .ref g0)]) dX1_largest_28 hl (k := 3) rfl (by omega) (by decide) rfl (fun ls hl => ?_)
        refine lv_goto (tgt := 4) hx hb dX1_largest_31 (by decide) ?_
        refine ih (k + 1) (zRun F k) ls (by omega) (by omega) (by omega) (fun z hz => ?_) (Or.inr ⟨k, rfl⟩) (lv_sub hl [3, 1, 0] rfl)
        rcases Nat.lt_or_ge z k with q | q
        · have := h3 z q; omega
        · rw [show z = k by omega]; omega
set_option maxHeartbeats 4000000 in
set_option maxRecDepth 100000 in
theorem metX1_largest (l : Launch) (G : va_G) {g0 b1 : Nat} {dB : ClassId} {F : Nat → Bool} (hF : zOk F) : zRO l yX1_largest cX1_largest 4 (some .int) ({ frames := 1, cells := 0, slots := 0, locals := 23 } : Room) G (wM g0 b1 dB F) [(dB, .boolean)] [.ref g0] (fun r => ∃ mo : Nat, r = zI ((mo : Nat) : Int) ∧ mo ≤ 256 ∧ zsLargest F ((mo : Nat) : Int)) := by
  refine zro_enter (by decide) (Nat.le_of_ble_eq_true rfl) ?_
  intro p e s m below meth c hx hb hr hml hown hlocks hts hP hK ls hl
  have hown : s.vm.findClass RX1 = some m.cls := hown
  have hl : lv_has ls 4 [(0, .ref g0)] := hl
  refine zr_iconstN 0 hx hb dX1_largest_0 rfl ?_
  refine lv_istore_n (lv' := [(1, .int (zI ((0 : Nat) : Int))), (0, .ref g0)]) hx hb dX1_largest_1 rfl hl (by decide) rfl (fun ls hl => ?_)
  refine zr_iconstN 0 hx hb dX1_largest_2 rfl ?_
  refine lv_istore_n (lv' := [(2, .int (zI ((0 : Nat) : Int))), (1, .int (zI ((0 : Nat) : Int))), (0, .ref g0)]) hx hb dX1_largest_3 rfl hl (by decide) rfl (fun ls hl => ?_)
  refine lpX1_largest hx hb hown hts hK hml (Nat.le_of_ble_eq_true rfl) (Nat.le_of_ble_eq_true rfl) ⟨Nat.zero_le _, Nat.zero_le _⟩ hP hF (fun mo ls hm1 hm2 hl => ?_) 257 0 0 ls (by omega) (by omega) (by omega) (fun z hz => absurd hz (Nat.not_lt_zero _)) (Or.inl rfl) (lv_sub hl [2, 1, 0] rfl)
  refine lv_iload_n hx hb dX1_largest_34 rfl (lv_at hl 1 rfl) ?_
  exact zret_roi (v := zI ((mo : Nat) : Int)) hx hb hr hlocks dX1_largest_35 ⟨mo, rfl, hm1, hm2⟩
set_option maxHeartbeats 4000000 in
set_option maxRecDepth 100000 in
theorem lpX1_next {p : Program} {l : Launch} {e : Env} {R : Room} {s : State} {m : MethodId} {args : Array Value} {below : List Frame} {meth : Method} {c : Code} {cells slots : Nat} {Q : State → Prop} {G : va_G} {H : Heap} {locs : List Loc} {g0 b1 : Nat} {dB : ClassId} {F : Nat → Bool} {x : Nat} (hx : p.tables.exec = Jvm.exec) (hb : c.code = cX1_next) (hown : s.vm.findClass RX1 = some m.cls) (hts : ∀ w ∈ lw_all, w.before args s = true) (hK : va_K G vwCl [(dB, .boolean)] s) (hml : c.maxLocals = 3) (hRf : 2 ≤ R.frames) (hRl : 42 ≤ R.locals) (hcs : cells ≤ R.cells ∧ slots ≤ R.slots) (hP : va_P G vwCl (wM g0 b1 dB F) H) (hF : zOk F)
    (kx : ∀  (ls : Array Slot), (∀ z, x ≤ z → zBg F z = false) →  lv_has ls 3 [(0, .ref g0), (1, .int (zI ((x : Nat) : Int)))] → W p l e R s m args below meth c H locs cells slots Q (F0 m 35 ls []))
    (kr : ∀ (k : Nat) (ls : Array Slot), (∀ z, x ≤ z → z < x + k → zBg F z = false) → zBg F (x + k) = true →  lv_has ls 3 [(0, .ref g0), (1, .int (zI ((x : Nat) : Int))), (2, .int (zI ((x + k : Nat) : Int)))] → W p l e R s m args below meth c H locs cells slots Q (F0 m 27 ls [])) :
    ∀ (d : Nat) (k : Nat) (ls : Array Slot), 256 - (x + k) < d → x + k ≤ 256 → (∀ z, x ≤ z → z < x + k → zBg F z = false) →  lv_has ls 3 [(0, .ref g0), (1, .int (zI ((x : Nat) : Int))), (2, .int (zI ((x + k : Nat) : Int)))] → W p l e R s m args below meth c H locs cells slots Q (F0 m 12 ls []) := by
  intro d
  induction d with
  | zero => intro k ls h; exact absurd h (Nat.not_lt_zero _)
  | succ d ih =>
    intro k ls hd h1 h2 hl
    refine lv_iload_n hx hb dX1_next_12 rfl (lv_at hl 2 rfl) ?_
    refine zr_sipush ((256 : Nat) : Int) hx hb dX1_next_13 (by decide) ?_
    refine zr_icmp_ge (tgt := 35) hx hb dX1_next_16 (by decide) (by omega) (fun c16 => ?_) (fun c16 => ?_)
    · exact kx ls (fun z g1 => by rcases Nat.lt_or_ge z (x + k) with q | q; exact h2 z g1 q; exact Bool.eq_false_iff.mpr (fun hz => by have := zBg_lt hF hz; omega)) (lv_sub hl [0, 1] rfl)
    · refine lv_aload_n hx hb dX1_next_19 rfl (lv_at hl 0 rfl) ?_
      refine lv_iload_n hx hb dX1_next_20 rfl (lv_at hl 2 rfl) ?_
      refine zc_ro (n := 1) (As := [.int (zI ((x + k : Nat) : Int))]) (rest := []) ⟨hx, hb, hml, hown, hts⟩ (metX1_begins l G (x := x + k) (by omega)) (lw_V q155 q157 qs8 q16 q158) ⟨rfl, rfl⟩ (by decide +kernel) ⟨Nat.le_trans (by decide) hRf, Nat.le_trans (by decide) hRl⟩ hK hP 0 1 rfl rfl rfl rfl rfl hl (Nat.le_of_ble_eq_true rfl) hcs dX1_next_21 (fun r21 h21 => ?_)
      rcases h21 with ⟨er21, h21⟩ | ⟨er21, h21⟩
      · subst er21
        refine zr_if_eq (tgt := 29) hx hb dX1_next_24 (by decide) (by omega) (fun c24 => by exfalso; omega) (fun c24 => ?_)
        exact kr k ls h2 h21 (lv_sub hl [0, 1, 2] rfl)
      · subst er21
        refine zr_if_eq (tgt := 29) hx hb dX1_next_24 (by decide) (by omega) (fun c24 => ?_) (fun c24 => by exfalso; omega)
        refine zr_iinc hx hb ((x + (k + 1) : Nat) : Int) (lv' := [(2, .int (zI ((x + (k + 1) : Nat) : Int))), (0, .ref g0), (1, .int (zI ((x : Nat) : Int)))]) dX1_next_29 hl (k := 2) rfl (by omega) (by decide) rfl (fun ls hl => ?_)
        refine lv_goto (tgt := 12) hx hb dX1_next_32 (by decide) ?_
        refine ih (k + 1) ls (by omega) (by omega) (fun z g1 g2 => ?_) (lv_sub hl [1, 2, 0] rfl)
        rcases Nat.lt_or_ge z (x + k) with q | q
        · exact h2 z g1 q
        · rw [show z = x + k by omega]; exact Bool.eq_false_iff.mpr h21
set_option maxHeartbeats 4000000 in
set_option maxRecDepth 100000 in
theorem metX1_next (l : Launch) (G : va_G) {g0 b1 : Nat} {dB : ClassId} {F : Nat → Bool} (hF : zOk F) {b : Int} (hb0 : zIn b) : zRO l yX1_next cX1_next 3 (some .int) ({ frames := 2, cells := 0, slots := 0, locals := 42 } : Room) G (wM g0 b1 dB F) [(dB, .boolean)] [.ref g0, .int (zI b)] (fun r => ∃ q : Int, r = zI q ∧ zsNext F b q) := by
  refine zro_enter (by decide) (Nat.le_of_ble_eq_true rfl) ?_
  intro p e s m below meth c hx hb hr hml hown hlocks hts hP hK ls hl
  have hown : s.vm.findClass RX1 = some m.cls := hown
  have hl : lv_has ls 3 [(0, .ref g0), (1, .int (zI b))] := hl
  refine lv_aload_n hx hb dX1_next_0 rfl (lv_at hl 0 rfl) ?_
  refine lv_iload_n hx hb dX1_next_1 rfl (lv_at hl 1 rfl) ?_
  refine zc_ro (n := 1) (As := [.int (zI b)]) (rest := []) ⟨hx, hb, hml, hown, hts⟩ (metX1_badBlock l G hb0) (lw_V q159 q161 qs9 q16 q162) ⟨rfl, rfl⟩ (by decide +kernel) ⟨Nat.le_of_ble_eq_true rfl, Nat.le_of_ble_eq_true rfl⟩ hK hP 0 1 rfl rfl rfl rfl rfl hl (Nat.le_of_ble_eq_true rfl) ⟨Nat.zero_le _, Nat.zero_le _⟩ dX1_next_2 (fun r2 h2 => ?_)
  rcases h2 with ⟨er2, h2⟩ | ⟨er2, h2⟩
  · subst er2
    refine zr_if_eq (tgt := 10) hx hb dX1_next_5 (by decide) (by omega) (fun c5 => by exfalso; omega) (fun c5 => ?_)
    refine zr_iconst hx hb dX1_next_8 ?_
    exact zret_roi (v := zI (-1)) hx hb hr hlocks dX1_next_9 ⟨-1, rfl, Or.inl ⟨h2, rfl⟩⟩
  · subst er2
    refine zr_if_eq (tgt := 10) hx hb dX1_next_5 (by decide) (by omega) (fun c5 => ?_) (fun c5 => by exfalso; omega)
    obtain ⟨x, rfl⟩ := Int.eq_ofNat_of_zero_le (show 0 ≤ b by omega)
    refine lv_iload_n hx hb dX1_next_10 rfl (lv_at hl 1 rfl) ?_
    refine lv_istore_n (lv' := [(2, .int (zI ((x : Nat) : Int))), (0, .ref g0), (1, .int (zI ((x : Nat) : Int)))]) hx hb dX1_next_11 rfl hl (by decide) rfl (fun ls hl => ?_)
    have e9 : ((x : Nat) : Int) = ((x + 0 : Nat) : Int) := by omega
    rw [e9] at hl
    refine lpX1_next hx hb hown hts hK hml (Nat.le_of_ble_eq_true rfl) (Nat.le_of_ble_eq_true rfl) ⟨Nat.zero_le _, Nat.zero_le _⟩ hP hF (fun ls hk1 hl => ?_) (fun k ls hk1 hk2 hl => ?_) 257 0 ls (by omega) (by omega) (fun z g1 g2 => by omega) (lv_sub hl [1, 2, 0] rfl)
    · refine zr_bipush (-6) hx hb dX1_next_35 (by decide) ?_
      exact zret_roi (v := zI (-6)) hx hb hr hlocks dX1_next_37 ⟨-6, rfl, Or.inr ⟨x, rfl, by omega, Or.inl ⟨hk1, rfl⟩⟩⟩
    · refine lv_iload_n hx hb dX1_next_27 rfl (lv_at hl 2 rfl) ?_
      exact zret_roi (v := zI ((x + k : Nat) : Int)) hx hb hr hlocks dX1_next_28 ⟨_, rfl, Or.inr ⟨x, rfl, by omega, Or.inr ⟨x + k, by omega, hk2, hk1, rfl⟩⟩⟩
set_option maxHeartbeats 4000000 in
set_option maxRecDepth 100000 in
theorem lpX1_sizeAt {p : Program} {l : Launch} {e : Env} {R : Room} {s : State} {m : MethodId} {args : Array Value} {below : List Frame} {meth : Method} {c : Code} {cells slots : Nat} {Q : State → Prop} {G : va_G} {H : Heap} {locs : List Loc} {g0 b1 : Nat} {dB : ClassId} {F : Nat → Bool} {x : Nat} (hx : p.tables.exec = Jvm.exec) (hb : c.code = cX1_sizeAt) (hown : s.vm.findClass RX1 = some m.cls) (hts : ∀ w ∈ lw_all, w.before args s = true) (hK : va_K G vwCl [(dB, .boolean)] s)  (hP : va_P G vwCl (wM g0 b1 dB F) H) (hx9 : x < 256)
    (kx : ∀ (f : Nat) (ls : Array Slot), f ≤ x → (F x = true → ∀ y, f ≤ y → y ≤ x → F y = true) → (F x = false → f = x) → (F x = false ∨ f = 0 ∨ F (f - 1) = false) →  lv_has ls 4 [(0, .ref g0), (1, .int (zI ((x : Nat) : Int))), (2, .int (zI ((f : Nat) : Int)))] → W p l e R s m args below meth c H locs cells slots Q (F0 m 54 ls [])) :
    ∀ (d : Nat) (k : Nat) (f : Nat) (ls : Array Slot), 256 - k < d → k ≤ 256 → f ≤ x → (F x = true → ∀ y, f ≤ y → y ≤ x → F y = true) → (F x = false → f = x) → (k ≤ x - f ∨ F x = false ∨ f = 0 ∨ F (f - 1) = false) →  lv_has ls 4 [(0, .ref g0), (1, .int (zI ((x : Nat) : Int))), (2, .int (zI ((f : Nat) : Int))), (3, .int (zI ((k : Nat) : Int)))] → W p l e R s m args below meth c H locs cells slots Q (F0 m 14 ls []) := by
  intro d
  induction d with
  | zero => intro k f ls h; exact absurd h (Nat.not_lt_zero _)
  | succ d ih =>
    intro k f ls hd h1 h2 h3 h4 h5 hl
    refine lv_iload_n hx hb dX1_sizeAt_14 rfl (lv_at hl 3 rfl) ?_
    refine zr_sipush ((256 : Nat) : Int) hx hb dX1_sizeAt_15 (by decide) ?_
    refine zr_icmp_ge (tgt := 54) hx hb dX1_sizeAt_18 (by decide) (by omega) (fun c18 => ?_) (fun c18 => ?_)
    · exact kx f ls h2 h3 h4 (by rcases h5 with q | q; exfalso; omega; exact q) (lv_sub hl [0, 1, 2] rfl)
    · refine lv_iload_n hx hb dX1_sizeAt_21 rfl (lv_at hl 2 rfl) ?_
      refine zr_if_le (tgt := 48) hx hb dX1_sizeAt_22 (by decide) (by omega) (fun c22 => ?_) (fun c22 => ?_)
      · refine zr_iinc hx hb ((k + 1 : Nat) : Int) (lv' := [(3, .int (zI ((k + 1 : Nat) : Int))), (0, .ref g0), (1, .int (zI ((x : Nat) : Int))), (2, .int (zI ((f : Nat) : Int)))]) dX1_sizeAt_48 hl (k := 3) rfl (by omega) (by decide) rfl (fun ls hl => ?_)
        refine lv_goto (tgt := 14) hx hb dX1_sizeAt_51 (by decide) ?_
        exact ih (k + 1) f ls (by omega) (by omega) h2 h3 h4 (Or.inr (Or.inr (Or.inl (by omega)))) (lv_sub hl [1, 2, 3, 0] rfl)
      · refine lv_aload_n hx hb dX1_sizeAt_25 rfl (lv_at hl 0 rfl) ?_
        refine va_get (D := G) (ci := 1) (v := .ref b1) (C := RX1) (T := TX1) (N := 1) hx hb hts in_X1 hown hK hP 0 rfl rfl 0 (by decide) (hts _ q142) (fun _ h9 => h9) rfl dX1_sizeAt_26 ?_
        refine lv_iload_n hx hb dX1_sizeAt_29 rfl (lv_at hl 1 rfl) ?_
        refine zr_zald hx hb hK hP 1 0 rfl rfl x rfl (by omega) (by decide) dX1_sizeAt_30 (fun c30 => ?_) (fun c30 => ?_)
        · refine zr_if_ne (tgt := 48) hx hb dX1_sizeAt_31 (by decide) (by omega) (fun c31 => by exfalso; omega) (fun c31 => ?_)
          refine lv_aload_n hx hb dX1_sizeAt_34 rfl (lv_at hl 0 rfl) ?_
          refine va_get (D := G) (ci := 1) (v := .ref b1) (C := RX1) (T := TX1) (N := 1) hx hb hts in_X1 hown hK hP 0 rfl rfl 0 (by decide) (hts _ q142) (fun _ h9 => h9) rfl dX1_sizeAt_35 ?_
          refine lv_iload_n hx hb dX1_sizeAt_38 rfl (lv_at hl 2 rfl) ?_
          refine zr_iconstN 1 hx hb dX1_sizeAt_39 rfl ?_
          refine zr_isubN hx hb (by omega) dX1_sizeAt_40 ?_
          refine zr_zald hx hb hK hP 1 0 rfl rfl (f - 1) rfl (by omega) (by decide) dX1_sizeAt_41 (fun c41 => ?_) (fun c41 => ?_)
          · refine zr_if_ne (tgt := 48) hx hb dX1_sizeAt_42 (by decide) (by omega) (fun c42 => by exfalso; omega) (fun c42 => ?_)
            refine zr_iinc hx hb ((f - 1 : Nat) : Int) (lv' := [(2, .int (zI ((f - 1 : Nat) : Int))), (0, .ref g0), (1, .int (zI ((x : Nat) : Int))), (3, .int (zI ((k : Nat) : Int)))]) dX1_sizeAt_45 hl (k := 2) rfl (by omega) (by decide) rfl (fun ls hl => ?_)
            refine zr_iinc hx hb ((k + 1 : Nat) : Int) (lv' := [(3, .int (zI ((k + 1 : Nat) : Int))), (2, .int (zI ((f - 1 : Nat) : Int))), (0, .ref g0), (1, .int (zI ((x : Nat) : Int)))]) dX1_sizeAt_48 hl (k := 3) rfl (by omega) (by decide) rfl (fun ls hl => ?_)
            refine lv_goto (tgt := 14) hx hb dX1_sizeAt_51 (by decide) ?_
            refine ih (k + 1) (f - 1) ls (by omega) (by omega) (by omega) (fun hz y g1 g2 => ?_) (fun hz => by rw [c30] at hz; cases hz) (Or.inl (by rcases h5 with q | q | q | q; omega; rw [c30] at q; cases q; omega; rw [c41] at q; cases q)) (lv_sub hl [2, 3, 1, 0] rfl)
            rcases Nat.lt_or_ge y f with q | q
            · rw [show y = f - 1 by omega]; exact c41
            · exact h3 hz y q g2
          · refine zr_if_ne (tgt := 48) hx hb dX1_sizeAt_42 (by decide) (by omega) (fun c42 => ?_) (fun c42 => by exfalso; omega)
            refine zr_iinc hx hb ((k + 1 : Nat) : Int) (lv' := [(3, .int (zI ((k + 1 : Nat) : Int))), (0, .ref g0), (1, .int (zI ((x : Nat) : Int))), (2, .int (zI ((f : Nat) : Int)))]) dX1_sizeAt_48 hl (k := 3) rfl (by omega) (by decide) rfl (fun ls hl => ?_)
            refine lv_goto (tgt := 14) hx hb dX1_sizeAt_51 (by decide) ?_
            exact ih (k + 1) f ls (by omega) (by omega) h2 h3 h4 (Or.inr (Or.inr (Or.inr c41))) (lv_sub hl [1, 2, 3, 0] rfl)
        · refine zr_if_ne (tgt := 48) hx hb dX1_sizeAt_31 (by decide) (by omega) (fun c31 => ?_) (fun c31 => by exfalso; omega)
          refine zr_iinc hx hb ((k + 1 : Nat) : Int) (lv' := [(3, .int (zI ((k + 1 : Nat) : Int))), (0, .ref g0), (1, .int (zI ((x : Nat) : Int))), (2, .int (zI ((f : Nat) : Int)))]) dX1_sizeAt_48 hl (k := 3) rfl (by omega) (by decide) rfl (fun ls hl => ?_)
          refine lv_goto (tgt := 14) hx hb dX1_sizeAt_51 (by decide) ?_
          exact ih (k + 1) f ls (by omega) (by omega) h2 h3 h4 (Or.inr (Or.inl c30)) (lv_sub hl [1, 2, 3, 0] rfl)
set_option maxHeartbeats 4000000 in
set_option maxRecDepth 100000 in
theorem metX1_sizeAt (l : Launch) (G : va_G) {g0 b1 : Nat} {dB : ClassId} {F : Nat → Bool} (hF : zOk F) {b : Int} (hb0 : zIn b) : zRO l yX1_sizeAt cX1_sizeAt 4 (some .int) ({ frames := 1, cells := 0, slots := 0, locals := 23 } : Room) G (wM g0 b1 dB F) [(dB, .boolean)] [.ref g0, .int (zI b)] (fun r => ∃ q : Int, r = zI q ∧ zsSizeAt F b q) := by
  refine zro_enter (by decide) (Nat.le_of_ble_eq_true rfl) ?_
  intro p e s m below meth c hx hb hr hml hown hlocks hts hP hK ls hl
  have hown : s.vm.findClass RX1 = some m.cls := hown
  have hl : lv_has ls 4 [(0, .ref g0), (1, .int (zI b))] := hl
  refine lv_aload_n hx hb dX1_sizeAt_0 rfl (lv_at hl 0 rfl) ?_
  refine lv_iload_n hx hb dX1_sizeAt_1 rfl (lv_at hl 1 rfl) ?_
  refine zc_ro (n := 1) (As := [.int (zI b)]) (rest := []) ⟨hx, hb, hml, hown, hts⟩ (metX1_badBlock l G hb0) (lw_V q159 q161 qs9 q16 q162) ⟨rfl, rfl⟩ (by decide +kernel) ⟨Nat.le_of_ble_eq_true rfl, Nat.le_of_ble_eq_true rfl⟩ hK hP 0 1 rfl rfl rfl rfl rfl hl (Nat.le_of_ble_eq_true rfl) ⟨Nat.zero_le _, Nat.zero_le _⟩ dX1_sizeAt_2 (fun r2 h2 => ?_)
  rcases h2 with ⟨er2, h2⟩ | ⟨er2, h2⟩
  · subst er2
    refine zr_if_eq (tgt := 10) hx hb dX1_sizeAt_5 (by decide) (by omega) (fun c5 => by exfalso; omega) (fun c5 => ?_)
    refine zr_iconst hx hb dX1_sizeAt_8 ?_
    exact zret_roi (v := zI (-1)) hx hb hr hlocks dX1_sizeAt_9 ⟨-1, rfl, Or.inl ⟨h2, rfl⟩⟩
  · subst er2
    refine zr_if_eq (tgt := 10) hx hb dX1_sizeAt_5 (by decide) (by omega) (fun c5 => ?_) (fun c5 => by exfalso; omega)
    obtain ⟨x, rfl⟩ := Int.eq_ofNat_of_zero_le (show 0 ≤ b by omega)
    refine lv_iload_n hx hb dX1_sizeAt_10 rfl (lv_at hl 1 rfl) ?_
    refine lv_istore_n (lv' := [(2, .int (zI ((x : Nat) : Int))), (0, .ref g0), (1, .int (zI ((x : Nat) : Int)))]) hx hb dX1_sizeAt_11 rfl hl (by decide) rfl (fun ls hl => ?_)
    refine zr_iconstN 0 hx hb dX1_sizeAt_12 rfl ?_
    refine lv_istore_n (lv' := [(3, .int (zI ((0 : Nat) : Int))), (2, .int (zI ((x : Nat) : Int))), (0, .ref g0), (1, .int (zI ((x : Nat) : Int)))]) hx hb dX1_sizeAt_13 rfl hl (by decide) rfl (fun ls hl => ?_)
    refine lpX1_sizeAt hx hb hown hts hK hP (by omega) (fun f ls y1 y2 y3 y4 hl => ?_) 257 0 x ls (by omega) (by omega) (Nat.le_refl _) (fun hz y g1 g2 => by rw [show y = x by omega]; exact hz) (fun _ => rfl) (Or.inl (by omega)) (lv_sub hl [2, 3, 1, 0] rfl)
    refine lv_aload_n hx hb dX1_sizeAt_54 rfl (lv_at hl 0 rfl) ?_
    refine lv_iload_n hx hb dX1_sizeAt_55 rfl (lv_at hl 2 rfl) ?_
    refine zc_ro (n := 1) (As := [.int (zI ((f : Nat) : Int))]) (rest := []) ⟨hx, hb, hml, hown, hts⟩ (metX1_run l G hF (x := f) (by omega)) (lw_V q163 q165 qs10 q16 q166) ⟨rfl, rfl⟩ (by decide +kernel) ⟨Nat.le_of_ble_eq_true rfl, Nat.le_of_ble_eq_true rfl⟩ hK hP 0 1 rfl rfl rfl rfl rfl hl (Nat.le_of_ble_eq_true rfl) ⟨Nat.zero_le _, Nat.zero_le _⟩ dX1_sizeAt_56 (fun r56 h56 => ?_)
    subst h56
    have hr56 := zRun_256 F f
    exact zret_roi (v := zI ((zRun F f : Nat) : Int)) hx hb hr hlocks dX1_sizeAt_59 ⟨_, rfl, Or.inr ⟨x, rfl, by omega, zm_size hF (by omega) y1 y2 y3 y4⟩⟩
set_option maxHeartbeats 4000000 in
set_option maxRecDepth 100000 in
theorem lpX1_bySizeI {p : Program} {l : Launch} {e : Env} {R : Room} {s : State} {m : MethodId} {args : Array Value} {below : List Frame} {meth : Method} {c : Code} {cells slots : Nat} {Q : State → Prop} {G : va_G} {H : Heap} {locs : List Loc} {g0 b1 : Nat} {dB : ClassId} {F : Nat → Bool} {b : Int} {z : Nat} (hx : p.tables.exec = Jvm.exec) (hb : c.code = cX1_bySize) (hown : s.vm.findClass RX1 = some m.cls) (hts : ∀ w ∈ lw_all, w.before args s = true) (hK : va_K G vwCl [(dB, .boolean)] s) (hml : c.maxLocals = 5) (hRf : 2 ≤ R.frames) (hRl : 42 ≤ R.locals) (hcs : cells ≤ R.cells ∧ slots ≤ R.slots) (hP : va_P G vwCl (wM g0 b1 dB F) H) (hF : zOk F) (hb0 : zIn b) (hz9 : z ≤ 256)
    (kx : ∀  (ls : Array Slot), (∀ y, y < z * 256 + 256 → zKy F y = true → b ≠ ((zCt (zKy F) y : Nat) : Int)) →  lv_has ls 5 [(0, .ref g0), (1, .int (zI b)), (2, .int (zI ((zCt (zKy F) (z * 256 + 256) : Nat) : Int))), (3, .int (zI ((z : Nat) : Int)))] → W p l e R s m args below meth c H locs cells slots Q (F0 m 58 ls []))
    (kr : ∀ (k : Nat) (ls : Array Slot), zsBySize F b ((k : Nat) : Int) →  lv_has ls 5 [(0, .ref g0), (4, .int (zI ((k : Nat) : Int)))] → W p l e R s m args below meth c H locs cells slots Q (F0 m 46 ls [])) :
    ∀ (d : Nat) (k : Nat) (ls : Array Slot), 256 - k < d → k ≤ 256 → (∀ y, y < z * 256 + k → zKy F y = true → b ≠ ((zCt (zKy F) y : Nat) : Int)) →  lv_has ls 5 [(0, .ref g0), (1, .int (zI b)), (2, .int (zI ((zCt (zKy F) (z * 256 + k) : Nat) : Int))), (3, .int (zI ((z : Nat) : Int))), (4, .int (zI ((k : Nat) : Int)))] → W p l e R s m args below meth c H locs cells slots Q (F0 m 14 ls []) := by
  intro d
  induction d with
  | zero => intro k ls h; exact absurd h (Nat.not_lt_zero _)
  | succ d ih =>
    intro k ls hd h1 h2 hl
    have hct := zKy_ct (F := F) (z * 256 + k)
    refine lv_iload hx hb dX1_bySize_14 (lv_at hl 4 rfl) ?_
    refine zr_sipush ((256 : Nat) : Int) hx hb dX1_bySize_16 (by decide) ?_
    refine zr_icmp_ge (tgt := 58) hx hb dX1_bySize_19 (by decide) (by omega) (fun c19 => ?_) (fun c19 => ?_)
    · have e9 : k = 256 := by omega
      subst e9
      exact kx ls h2 (lv_sub hl [0, 1, 2, 3] rfl)
    · refine lv_aload_n hx hb dX1_bySize_22 rfl (lv_at hl 0 rfl) ?_
      refine lv_iload hx hb dX1_bySize_23 (lv_at hl 4 rfl) ?_
      refine zc_ro (n := 1) (As := [.int (zI ((k : Nat) : Int))]) (rest := []) ⟨hx, hb, hml, hown, hts⟩ (metX1_begins l G (x := k) (by omega)) (lw_V q155 q157 qs8 q16 q158) ⟨rfl, rfl⟩ (by decide +kernel) ⟨Nat.le_trans (by decide) hRf, Nat.le_trans (by decide) hRl⟩ hK hP 0 1 rfl rfl rfl rfl rfl hl (Nat.le_of_ble_eq_true rfl) hcs dX1_bySize_25 (fun r25 h25 => ?_)
      rcases h25 with ⟨er25, h25⟩ | ⟨er25, h25⟩
      · subst er25
        refine zr_if_eq (tgt := 52) hx hb dX1_bySize_28 (by decide) (by omega) (fun c28 => by exfalso; omega) (fun c28 => ?_)
        refine lv_aload_n hx hb dX1_bySize_31 rfl (lv_at hl 0 rfl) ?_
        refine lv_iload hx hb dX1_bySize_32 (lv_at hl 4 rfl) ?_
        refine zc_ro (n := 1) (As := [.int (zI ((k : Nat) : Int))]) (rest := []) ⟨hx, hb, hml, hown, hts⟩ (metX1_run l G hF (x := k) (by omega)) (lw_V q163 q165 qs10 q16 q166) ⟨rfl, rfl⟩ (by decide +kernel) ⟨Nat.le_trans (by decide) hRf, Nat.le_trans (by decide) hRl⟩ hK hP 0 1 rfl rfl rfl rfl rfl hl (Nat.le_of_ble_eq_true rfl) hcs dX1_bySize_34 (fun r34 h34 => ?_)
        subst h34
        have hr34 := zRun_256 F k
        refine lv_iload_n hx hb dX1_bySize_37 rfl (lv_at hl 3 rfl) ?_
        refine zr_icmp_ne (tgt := 52) hx hb dX1_bySize_38 (by decide) (by omega) (fun c38 => ?_) (fun c38 => ?_)
        · refine zr_iinc hx hb ((k + 1 : Nat) : Int) (lv' := [(4, .int (zI ((k + 1 : Nat) : Int))), (0, .ref g0), (1, .int (zI b)), (2, .int (zI ((zCt (zKy F) (z * 256 + k) : Nat) : Int))), (3, .int (zI ((z : Nat) : Int)))]) dX1_bySize_52 hl (k := 4) rfl (by omega) (by decide) rfl (fun ls hl => ?_)
          refine lv_goto (tgt := 14) hx hb dX1_bySize_55 (by decide) ?_
          have e8 : zKy F (z * 256 + k) = false := by rw [zKy_at (by omega), decide_eq_false (by omega)]; simp
          have e7 : zCt (zKy F) (z * 256 + (k + 1)) = zCt (zKy F) (z * 256 + k) := zCt_f e8
          rw [← e7] at hl
          refine ih (k + 1) ls (by omega) (by omega) (fun y hy hky => ?_) (lv_sub hl [1, 2, 3, 4, 0] rfl)
          rcases Nat.lt_or_ge y (z * 256 + k) with q | q
          · exact h2 y q hky
          · rw [show y = z * 256 + k by omega, e8] at hky; cases hky
        · refine lv_iload_n hx hb dX1_bySize_41 rfl (lv_at hl 2 rfl) ?_
          refine lv_iload_n hx hb dX1_bySize_42 rfl (lv_at hl 1 rfl) ?_
          refine zr_icmp_ne (tgt := 49) hx hb dX1_bySize_43 (by decide) (by omega) (fun c43 => ?_) (fun c43 => ?_)
          · refine zr_iinc hx hb (((zCt (zKy F) (z * 256 + k)) + 1 : Nat) : Int) (lv' := [(2, .int (zI (((zCt (zKy F) (z * 256 + k)) + 1 : Nat) : Int))), (0, .ref g0), (1, .int (zI b)), (3, .int (zI ((z : Nat) : Int))), (4, .int (zI ((k : Nat) : Int)))]) dX1_bySize_49 hl (k := 2) rfl (by omega) (by decide) rfl (fun ls hl => ?_)
            refine zr_iinc hx hb ((k + 1 : Nat) : Int) (lv' := [(4, .int (zI ((k + 1 : Nat) : Int))), (2, .int (zI (((zCt (zKy F) (z * 256 + k)) + 1 : Nat) : Int))), (0, .ref g0), (1, .int (zI b)), (3, .int (zI ((z : Nat) : Int)))]) dX1_bySize_52 hl (k := 4) rfl (by omega) (by decide) rfl (fun ls hl => ?_)
            refine lv_goto (tgt := 14) hx hb dX1_bySize_55 (by decide) ?_
            have e8 : zKy F (z * 256 + k) = true := by rw [zKy_at (by omega), h25, decide_eq_true (by omega)]; rfl
            have e7 : zCt (zKy F) (z * 256 + (k + 1)) = zCt (zKy F) (z * 256 + k) + 1 := zCt_t e8
            rw [← e7] at hl
            refine ih (k + 1) ls (by omega) (by omega) (fun y hy hky => ?_) (lv_sub hl [2, 3, 1, 4, 0] rfl)
            rcases Nat.lt_or_ge y (z * 256 + k) with q | q
            · exact h2 y q hky
            · rw [show y = z * 256 + k by omega]; omega
          · have e8 : zKy F (z * 256 + k) = true := by rw [zKy_at (by omega), h25, decide_eq_true (by omega)]; rfl
            exact kr k ls (Or.inl ⟨z * 256 + k, e8, by omega, by omega⟩) (lv_sub hl [0, 4] rfl)
      · subst er25
        refine zr_if_eq (tgt := 52) hx hb dX1_bySize_28 (by decide) (by omega) (fun c28 => ?_) (fun c28 => by exfalso; omega)
        refine zr_iinc hx hb ((k + 1 : Nat) : Int) (lv' := [(4, .int (zI ((k + 1 : Nat) : Int))), (0, .ref g0), (1, .int (zI b)), (2, .int (zI ((zCt (zKy F) (z * 256 + k) : Nat) : Int))), (3, .int (zI ((z : Nat) : Int)))]) dX1_bySize_52 hl (k := 4) rfl (by omega) (by decide) rfl (fun ls hl => ?_)
        refine lv_goto (tgt := 14) hx hb dX1_bySize_55 (by decide) ?_
        have e8 : zKy F (z * 256 + k) = false := by rw [zKy_at (by omega)]; cases hz : zBg F k with | false => rfl | true => exact absurd hz h25
        have e7 : zCt (zKy F) (z * 256 + (k + 1)) = zCt (zKy F) (z * 256 + k) := zCt_f e8
        rw [← e7] at hl
        refine ih (k + 1) ls (by omega) (by omega) (fun y hy hky => ?_) (lv_sub hl [1, 2, 3, 4, 0] rfl)
        rcases Nat.lt_or_ge y (z * 256 + k) with q | q
        · exact h2 y q hky
        · rw [show y = z * 256 + k by omega, e8] at hky; cases hky
set_option maxHeartbeats 4000000 in
set_option maxRecDepth 100000 in
theorem lpX1_bySizeO {p : Program} {l : Launch} {e : Env} {R : Room} {s : State} {m : MethodId} {args : Array Value} {below : List Frame} {meth : Method} {c : Code} {cells slots : Nat} {Q : State → Prop} {G : va_G} {H : Heap} {locs : List Loc} {g0 b1 : Nat} {dB : ClassId} {F : Nat → Bool} {b : Int} (hx : p.tables.exec = Jvm.exec) (hb : c.code = cX1_bySize) (hown : s.vm.findClass RX1 = some m.cls) (hts : ∀ w ∈ lw_all, w.before args s = true) (hK : va_K G vwCl [(dB, .boolean)] s) (hml : c.maxLocals = 5) (hRf : 2 ≤ R.frames) (hRl : 42 ≤ R.locals) (hcs : cells ≤ R.cells ∧ slots ≤ R.slots) (hP : va_P G vwCl (wM g0 b1 dB F) H) (hF : zOk F) (hb0 : zIn b)
    (kx : ∀  (ls : Array Slot), zsBySize F b (-6) →  lv_has ls 5 [(0, .ref g0)] → W p l e R s m args below meth c H locs cells slots Q (F0 m 64 ls []))
    (kr : ∀ (k : Nat) (ls : Array Slot), zsBySize F b ((k : Nat) : Int) →  lv_has ls 5 [(0, .ref g0), (4, .int (zI ((k : Nat) : Int)))] → W p l e R s m args below meth c H locs cells slots Q (F0 m 46 ls [])) :
    ∀ (d : Nat) (z : Nat) (ls : Array Slot), 257 - z < d → z ≤ 257 → (∀ y, y < z * 256 + 0 → zKy F y = true → b ≠ ((zCt (zKy F) y : Nat) : Int)) →  lv_has ls 5 [(0, .ref g0), (1, .int (zI b)), (2, .int (zI ((zCt (zKy F) (z * 256 + 0) : Nat) : Int))), (3, .int (zI ((z : Nat) : Int)))] → W p l e R s m args below meth c H locs cells slots Q (F0 m 4 ls []) := by
  intro d
  induction d with
  | zero => intro z ls h; exact absurd h (Nat.not_lt_zero _)
  | succ d ih =>
    intro z ls hd h1 h2 hl
    refine lv_iload_n hx hb dX1_bySize_4 rfl (lv_at hl 3 rfl) ?_
    refine zr_sipush ((257 : Nat) : Int) hx hb dX1_bySize_5 (by decide) ?_
    refine zr_icmp_ge (tgt := 64) hx hb dX1_bySize_8 (by decide) (by omega) (fun c8 => ?_) (fun c8 => ?_)
    · have e9 : z = 257 := by omega
      subst e9
      exact kx ls (Or.inr ⟨fun y hy => h2 y (zKy_lt hy) hy, rfl⟩) (lv_sub hl [0] rfl)
    · refine zr_iconstN 0 hx hb dX1_bySize_11 rfl ?_
      refine lv_istore (lv' := [(4, .int (zI ((0 : Nat) : Int))), (0, .ref g0), (1, .int (zI b)), (2, .int (zI ((zCt (zKy F) (z * 256 + 0) : Nat) : Int))), (3, .int (zI ((z : Nat) : Int)))]) hx hb dX1_bySize_12 hl (by decide) rfl (fun ls hl => ?_)
      refine lpX1_bySizeI hx hb hown hts hK hml hRf hRl hcs hP hF hb0 (z := z) (by omega) (fun ls hk1 hl => ?_) kr 257 0 ls (by omega) (by omega) h2 (lv_sub hl [1, 2, 3, 4, 0] rfl)
      refine zr_iinc hx hb ((z + 1 : Nat) : Int) (lv' := [(3, .int (zI ((z + 1 : Nat) : Int))), (0, .ref g0), (1, .int (zI b)), (2, .int (zI ((zCt (zKy F) (z * 256 + 256) : Nat) : Int)))]) dX1_bySize_58 hl (k := 3) rfl (by omega) (by decide) rfl (fun ls hl => ?_)
      refine lv_goto (tgt := 4) hx hb dX1_bySize_61 (by decide) ?_
      rw [show z * 256 + 256 = (z + 1) * 256 + 0 by omega] at hl hk1
      exact ih (z + 1) ls (by omega) (by omega) hk1 (lv_sub hl [1, 2, 3, 0] rfl)
set_option maxHeartbeats 4000000 in
set_option maxRecDepth 100000 in
theorem metX1_bySize (l : Launch) (G : va_G) {g0 b1 : Nat} {dB : ClassId} {F : Nat → Bool} (hF : zOk F) {b : Int} (hb0 : zIn b) : zRO l yX1_bySize cX1_bySize 5 (some .int) ({ frames := 2, cells := 0, slots := 0, locals := 42 } : Room) G (wM g0 b1 dB F) [(dB, .boolean)] [.ref g0, .int (zI b)] (fun r => ∃ q : Int, r = zI q ∧ zsBySize F b q) := by
  refine zro_enter (by decide) (Nat.le_of_ble_eq_true rfl) ?_
  intro p e s m below meth c hx hb hr hml hown hlocks hts hP hK ls hl
  have hown : s.vm.findClass RX1 = some m.cls := hown
  have hl : lv_has ls 5 [(0, .ref g0), (1, .int (zI b))] := hl
  refine zr_iconstN 0 hx hb dX1_bySize_0 rfl ?_
  refine lv_istore_n (lv' := [(2, .int (zI ((0 : Nat) : Int))), (0, .ref g0), (1, .int (zI b))]) hx hb dX1_bySize_1 rfl hl (by decide) rfl (fun ls hl => ?_)
  refine zr_iconstN 1 hx hb dX1_bySize_2 rfl ?_
  refine lv_istore_n (lv' := [(3, .int (zI ((1 : Nat) : Int))), (2, .int (zI ((0 : Nat) : Int))), (0, .ref g0), (1, .int (zI b))]) hx hb dX1_bySize_3 rfl hl (by decide) rfl (fun ls hl => ?_)
  have e9 : zCt (zKy F) (1 * 256 + 0) = 0 := zKy_low hF
  have hl : lv_has ls 5 [(3, .int (zI ((1 : Nat) : Int))), (2, .int (zI ((zCt (zKy F) (1 * 256 + 0) : Nat) : Int))), (0, .ref g0), (1, .int (zI b))] := by rw [e9]; exact hl
  refine lpX1_bySizeO hx hb hown hts hK hml (Nat.le_of_ble_eq_true rfl) (Nat.le_of_ble_eq_true rfl) ⟨Nat.zero_le _, Nat.zero_le _⟩ hP hF hb0 (fun ls hk1 hl => ?_) (fun k ls hk1 hl => ?_) 258 1 ls (by omega) (by omega) (fun y hy hky => ?_) (lv_sub hl [2, 3, 1, 0] rfl)
  · refine zr_bipush (-6) hx hb dX1_bySize_64 (by decide) ?_
    exact zret_roi (v := zI (-6)) hx hb hr hlocks dX1_bySize_66 ⟨-6, rfl, hk1⟩
  · refine lv_iload hx hb dX1_bySize_46 (lv_at hl 1 rfl) ?_
    exact zret_roi (v := zI ((k : Nat) : Int)) hx hb hr hlocks dX1_bySize_48 ⟨_, rfl, hk1⟩
  · exfalso
    have := zCt_lt (zKy F) hy hky
    omega
end
section
set_option maxHeartbeats 4000000 in
set_option maxRecDepth 100000 in
theorem lpX1_mark {p : Program} {l : Launch} {e : Env} {R : Room} {s : State} {m : MethodId} {args : Array Value} {below : List Frame} {meth : Method} {c : Code} {cells slots : Nat} {Q : State → Prop} {G : va_G} {H0 : Heap} {A : Nat → Prop} {g0 b1 : Nat} {dB : ClassId} {F : Nat → Bool} {f mm : Nat} {v : Bool} (hx : p.tables.exec = Jvm.exec) (hb : c.code = cX1_mark) (hown : s.vm.findClass RX1 = some m.cls) (hts : ∀ w ∈ lw_all, w.before args s = true) (hK : va_K G vwCl [(dB, .boolean)] s) (hfm : f + mm ≤ 256)
    (kx : ∀ (H : Heap) (locs : List Loc) (ls : Array Slot), va_P G vwCl (wM g0 b1 dB (zM F f mm v)) H → va_D A (wM g0 b1 dB (zM F f mm v)) → va_S A H0 H locs → lv_has ls 5 [(0, .ref g0), (1, .int (zI ((f : Nat) : Int))), (2, .int (zI ((mm : Nat) : Int))), (3, .int (zI (zb v)))] → W p l e R s m args below meth c H locs cells slots Q (F0 m 38 ls [])) :
    ∀ (d k : Nat) (H : Heap) (locs : List Loc) (ls : Array Slot), mm - k < d → k ≤ mm → va_P G vwCl (wM g0 b1 dB (zM F f k v)) H → va_D A (wM g0 b1 dB (zM F f k v)) → va_S A H0 H locs → lv_has ls 5 [(0, .ref g0), (1, .int (zI ((f : Nat) : Int))), (2, .int (zI ((mm : Nat) : Int))), (3, .int (zI (zb v))), (4, .int (zI ((f + k : Nat) : Int)))] → W p l e R s m args below meth c H locs cells slots Q (F0 m 3 ls []) := by
  intro d
  induction d with
  | zero => intro k H locs ls h; exact absurd h (Nat.not_lt_zero _)
  | succ d ih =>
    intro k H locs ls hd h1 hP hD hS hl
    refine lv_iload hx hb dX1_mark_3 (lv_at hl 4 rfl) ?_
    refine lv_iload_n hx hb dX1_mark_5 rfl (lv_at hl 1 rfl) ?_
    refine lv_iload_n hx hb dX1_mark_6 rfl (lv_at hl 2 rfl) ?_
    refine zr_iaddN hx hb dX1_mark_7 ?_
    refine zr_icmp_ge (tgt := 38) hx hb dX1_mark_8 (by decide) (by omega) (fun c8 => ?_) (fun c8 => ?_)
    · have e9 : k = mm := by omega
      subst e9
      exact kx H locs ls hP hD hS (lv_sub hl [0, 1, 2, 3] rfl)
    · refine lv_iload hx hb dX1_mark_11 (lv_at hl 4 rfl) ?_
      refine zr_if_lt (tgt := 32) hx hb dX1_mark_13 (by decide) (by omega) (fun c13 => by exfalso; omega) (fun c13 => ?_)
      refine lv_iload hx hb dX1_mark_16 (lv_at hl 4 rfl) ?_
      refine zr_sipush ((256 : Nat) : Int) hx hb dX1_mark_18 (by decide) ?_
      refine zr_icmp_ge (tgt := 32) hx hb dX1_mark_21 (by decide) (by omega) (fun c21 => by exfalso; omega) (fun c21 => ?_)
      refine lv_aload_n hx hb dX1_mark_24 rfl (lv_at hl 0 rfl) ?_
      refine va_get (D := G) (ci := 1) (v := .ref b1) (C := RX1) (T := TX1) (N := 1) hx hb hts in_X1 hown hK hP 0 rfl rfl 0 (by decide) (hts _ q142) (fun _ h9 => h9) rfl dX1_mark_25 ?_
      refine lv_iload hx hb dX1_mark_28 (lv_at hl 4 rfl) ?_
      refine lv_iload_n hx hb dX1_mark_30 rfl (lv_at hl 3 rfl) ?_
      refine zr_zast hx hb hK hP hD hS 1 0 rfl rfl (f + k) v rfl (by omega) (by decide) dX1_mark_31 (fun H locs hP hD hS => ?_)
      have hP : va_P G vwCl (wM g0 b1 dB (zV (zM F f k v) (f + k) v)) H := hP
      have hD : va_D A (wM g0 b1 dB (zV (zM F f k v) (f + k) v)) := hD
      rw [zM_succ] at hP hD
      refine zr_iinc hx hb ((f + (k + 1) : Nat) : Int) (lv' := [(4, .int (zI ((f + (k + 1) : Nat) : Int))), (0, .ref g0), (1, .int (zI ((f : Nat) : Int))), (2, .int (zI ((mm : Nat) : Int))), (3, .int (zI (zb v)))]) dX1_mark_32 hl (k := 4) rfl (by omega) (by decide) rfl (fun ls hl => ?_)
      refine lv_goto (tgt := 3) hx hb dX1_mark_35 (by decide) ?_
      exact ih (k + 1) H locs ls (by omega) (by omega) hP hD hS (lv_sub hl [1, 2, 3, 4, 0] rfl)
set_option maxHeartbeats 4000000 in
set_option maxRecDepth 100000 in
theorem metX1_mark (l : Launch) (G : va_G) (sz : Nat) {g0 b1 : Nat} {dB : ClassId} {F : Nat → Bool} {f mm : Nat} {v : Bool} (hfm : f + mm ≤ 256) : zMU l yX1_mark cX1_mark 5 (none) ({ frames := 0, cells := 0, slots := 0, locals := 0 } : Room) G (wM g0 b1 dB F) [(dB, .boolean)] [.ref g0, .int (zI ((f : Nat) : Int)), .int (zI ((mm : Nat) : Int)), .int (zI (zb v))] sz (zQv G [(dB, .boolean)] (wM g0 b1 dB) (fun F9 => F9 = zM F f mm v)) 0 0 := by
  refine zmu_enter (by decide) (Nat.le_of_ble_eq_true rfl) ?_
  intro p e s m below meth c A H locs hx hb hr hml hown hlocks hnm hts hA hP hK hD hS ls hl
  have hown : s.vm.findClass RX1 = some m.cls := hown
  have hl : lv_has ls 5 [(0, .ref g0), (1, .int (zI ((f : Nat) : Int))), (2, .int (zI ((mm : Nat) : Int))), (3, .int (zI (zb v)))] := hl
  refine lv_iload_n hx hb dX1_mark_0 rfl (lv_at hl 1 rfl) ?_
  refine lv_istore (lv' := [(4, .int (zI ((f : Nat) : Int))), (0, .ref g0), (1, .int (zI ((f : Nat) : Int))), (2, .int (zI ((mm : Nat) : Int))), (3, .int (zI (zb v)))]) hx hb dX1_mark_1 hl (by decide) rfl (fun ls hl => ?_)
  have hP : va_P G vwCl (wM g0 b1 dB (zM F f 0 v)) H := by rw [zM_zero]; exact hP
  have hD : va_D A (wM g0 b1 dB (zM F f 0 v)) := by rw [zM_zero]; exact hD
  refine lpX1_mark hx hb hown hts hK (f := f) (mm := mm) (v := v) hfm (fun H locs ls hP hD hS hl => ?_) (mm + 1) 0 H locs ls (by omega) (by omega) hP hD hS (lv_sub hl [1, 2, 3, 4, 0] rfl)
  exact zret_muv hx hb hr hlocks dX1_mark_38 (zM F f mm v) hP hK hD hS rfl
set_option maxHeartbeats 4000000 in
set_option maxRecDepth 100000 in
theorem lpX1_take {p : Program} {l : Launch} {e : Env} {R : Room} {s : State} {m : MethodId} {args : Array Value} {below : List Frame} {meth : Method} {c : Code} {cells slots : Nat} {Q : State → Prop} {G : va_G} {H : Heap} {locs : List Loc} {g0 b1 : Nat} {dB : ClassId} {F : Nat → Bool} {x : Nat} (hx : p.tables.exec = Jvm.exec) (hb : c.code = cX1_take) (hown : s.vm.findClass RX1 = some m.cls) (hts : ∀ w ∈ lw_all, w.before args s = true) (hK : va_K G vwCl [(dB, .boolean)] s) (hml : c.maxLocals = 6) (hRf : 2 ≤ R.frames) (hRl : 42 ≤ R.locals) (hcs : cells ≤ R.cells ∧ slots ≤ R.slots) (hP : va_P G vwCl (wM g0 b1 dB F) H) (hF : zOk F) (hx9 : x ≤ 256)
    (kx : ∀ (bt : Int) (bz : Nat) (ls : Array Slot), zIT F x 256 bt bz →  lv_has ls 6 [(0, .ref g0), (1, .int (zI ((x : Nat) : Int))), (2, .int (zI bt))] → W p l e R s m args below meth c H locs cells slots Q (F0 m 69 ls [])) :
    ∀ (d : Nat) (k : Nat) (bt : Int) (bz : Nat) (ls : Array Slot), 256 - k < d → k ≤ 256 → zIT F x k bt bz →  lv_has ls 6 [(0, .ref g0), (1, .int (zI ((x : Nat) : Int))), (2, .int (zI bt)), (3, .int (zI ((bz : Nat) : Int))), (4, .int (zI ((k : Nat) : Int)))] → W p l e R s m args below meth c H locs cells slots Q (F0 m 20 ls []) := by
  intro d
  induction d with
  | zero => intro k bt bz ls h; exact absurd h (Nat.not_lt_zero _)
  | succ d ih =>
    intro k bt bz ls hd h1 h2 hl
    have hrg := zIT_rng h2 h1
    refine lv_iload hx hb dX1_take_20 (lv_at hl 4 rfl) ?_
    refine zr_sipush ((256 : Nat) : Int) hx hb dX1_take_22 (by decide) ?_
    refine zr_icmp_ge (tgt := 69) hx hb dX1_take_25 (by decide) (by omega) (fun c25 => ?_) (fun c25 => ?_)
    · have e9 : k = 256 := by omega
      subst e9
      exact kx bt bz ls h2 (lv_sub hl [0, 1, 2] rfl)
    · refine lv_aload_n hx hb dX1_take_28 rfl (lv_at hl 0 rfl) ?_
      refine lv_iload hx hb dX1_take_29 (lv_at hl 4 rfl) ?_
      refine zc_ro (n := 1) (As := [.int (zI ((k : Nat) : Int))]) (rest := []) ⟨hx, hb, hml, hown, hts⟩ (metX1_begins l G (x := k) (by omega)) (lw_V q155 q157 qs8 q16 q158) ⟨rfl, rfl⟩ (by decide +kernel) ⟨Nat.le_trans (by decide) hRf, Nat.le_trans (by decide) hRl⟩ hK hP 0 1 rfl rfl rfl rfl rfl hl (Nat.le_of_ble_eq_true rfl) hcs dX1_take_31 (fun r31 h31 => ?_)
      rcases h31 with ⟨er31, h31⟩ | ⟨er31, h31⟩
      · subst er31
        refine zr_if_eq (tgt := 63) hx hb dX1_take_34 (by decide) (by omega) (fun c34 => by exfalso; omega) (fun c34 => ?_)
        refine lv_aload_n hx hb dX1_take_37 rfl (lv_at hl 0 rfl) ?_
        refine lv_iload hx hb dX1_take_38 (lv_at hl 4 rfl) ?_
        refine zc_ro (n := 1) (As := [.int (zI ((k : Nat) : Int))]) (rest := []) ⟨hx, hb, hml, hown, hts⟩ (metX1_run l G hF (x := k) (by omega)) (lw_V q163 q165 qs10 q16 q166) ⟨rfl, rfl⟩ (by decide +kernel) ⟨Nat.le_trans (by decide) hRf, Nat.le_trans (by decide) hRl⟩ hK hP 0 1 rfl rfl rfl rfl rfl hl (Nat.le_of_ble_eq_true rfl) hcs dX1_take_40 (fun r40 h40 => ?_)
        subst h40
        have hr40 := zRun_256 F k
        refine lv_istore (lv' := [(5, .int (zI ((zRun F k : Nat) : Int))), (0, .ref g0), (1, .int (zI ((x : Nat) : Int))), (2, .int (zI bt)), (3, .int (zI ((bz : Nat) : Int))), (4, .int (zI ((k : Nat) : Int)))]) hx hb dX1_take_43 hl (by decide) rfl (fun ls hl => ?_)
        refine lv_iload hx hb dX1_take_45 (lv_at hl 0 rfl) ?_
        refine lv_iload_n hx hb dX1_take_47 rfl (lv_at hl 2 rfl) ?_
        refine zr_icmp_lt (tgt := 63) hx hb dX1_take_48 (by decide) (by omega) (fun c48 => ?_) (fun c48 => ?_)
        · refine zr_iinc hx hb ((k + 1 : Nat) : Int) (lv' := [(4, .int (zI ((k + 1 : Nat) : Int))), (5, .int (zI ((zRun F k : Nat) : Int))), (0, .ref g0), (1, .int (zI ((x : Nat) : Int))), (2, .int (zI bt)), (3, .int (zI ((bz : Nat) : Int)))]) dX1_take_63 hl (k := 5) rfl (by omega) (by decide) rfl (fun ls hl => ?_)
          refine lv_goto (tgt := 20) hx hb dX1_take_66 (by decide) ?_
          exact ih (k + 1) bt bz ls (by omega) (by omega) (zIT_skip h2 (fun hz => Or.inl (by omega))) (lv_sub hl [2, 3, 4, 5, 0] rfl)
        · refine lv_iload hx hb dX1_take_51 (lv_at hl 0 rfl) ?_
          refine lv_iload_n hx hb dX1_take_53 rfl (lv_at hl 4 rfl) ?_
          refine zr_icmp_ge (tgt := 63) hx hb dX1_take_54 (by decide) (by omega) (fun c54 => ?_) (fun c54 => ?_)
          · refine zr_iinc hx hb ((k + 1 : Nat) : Int) (lv' := [(4, .int (zI ((k + 1 : Nat) : Int))), (5, .int (zI ((zRun F k : Nat) : Int))), (0, .ref g0), (1, .int (zI ((x : Nat) : Int))), (2, .int (zI bt)), (3, .int (zI ((bz : Nat) : Int)))]) dX1_take_63 hl (k := 5) rfl (by omega) (by decide) rfl (fun ls hl => ?_)
            refine lv_goto (tgt := 20) hx hb dX1_take_66 (by decide) ?_
            exact ih (k + 1) bt bz ls (by omega) (by omega) (zIT_skip h2 (fun hz => Or.inr (by omega))) (lv_sub hl [2, 3, 4, 5, 0] rfl)
          · refine lv_iload hx hb dX1_take_57 (lv_at hl 5 rfl) ?_
            refine lv_istore_n (lv' := [(2, .int (zI ((k : Nat) : Int))), (5, .int (zI ((zRun F k : Nat) : Int))), (0, .ref g0), (1, .int (zI ((x : Nat) : Int))), (3, .int (zI ((bz : Nat) : Int))), (4, .int (zI ((k : Nat) : Int)))]) hx hb dX1_take_59 rfl hl (by decide) rfl (fun ls hl => ?_)
            refine lv_iload hx hb dX1_take_60 (lv_at hl 1 rfl) ?_
            refine lv_istore_n (lv' := [(3, .int (zI ((zRun F k : Nat) : Int))), (2, .int (zI ((k : Nat) : Int))), (5, .int (zI ((zRun F k : Nat) : Int))), (0, .ref g0), (1, .int (zI ((x : Nat) : Int))), (4, .int (zI ((k : Nat) : Int)))]) hx hb dX1_take_62 rfl hl (by decide) rfl (fun ls hl => ?_)
            refine zr_iinc hx hb ((k + 1 : Nat) : Int) (lv' := [(4, .int (zI ((k + 1 : Nat) : Int))), (3, .int (zI ((zRun F k : Nat) : Int))), (2, .int (zI ((k : Nat) : Int))), (5, .int (zI ((zRun F k : Nat) : Int))), (0, .ref g0), (1, .int (zI ((x : Nat) : Int)))]) dX1_take_63 hl (k := 5) rfl (by omega) (by decide) rfl (fun ls hl => ?_)
            refine lv_goto (tgt := 20) hx hb dX1_take_66 (by decide) ?_
            exact ih (k + 1) ((k : Nat) : Int) (zRun F k) ls (by omega) (by omega) (zIT_new h2 h31 (by omega) (by omega)) (lv_sub hl [4, 5, 2, 1, 0] rfl)
      · subst er31
        refine zr_if_eq (tgt := 63) hx hb dX1_take_34 (by decide) (by omega) (fun c34 => ?_) (fun c34 => by exfalso; omega)
        refine zr_iinc hx hb ((k + 1 : Nat) : Int) (lv' := [(4, .int (zI ((k + 1 : Nat) : Int))), (0, .ref g0), (1, .int (zI ((x : Nat) : Int))), (2, .int (zI bt)), (3, .int (zI ((bz : Nat) : Int)))]) dX1_take_63 hl (k := 4) rfl (by omega) (by decide) rfl (fun ls hl => ?_)
        refine lv_goto (tgt := 20) hx hb dX1_take_66 (by decide) ?_
        exact ih (k + 1) bt bz ls (by omega) (by omega) (zIT_skip h2 (fun hz => absurd hz h31)) (lv_sub hl [1, 2, 3, 4, 0] rfl)
set_option maxHeartbeats 4000000 in
set_option maxRecDepth 100000 in
theorem metX1_take (l : Launch) (G : va_G) (sz : Nat) {g0 b1 : Nat} {dB : ClassId} {F : Nat → Bool} (hF : zOk F) {b : Int} (hb0 : zIn b) : zMU l yX1_take cX1_take 6 (some .int) ({ frames := 2, cells := 0, slots := 0, locals := 42 } : Room) G (wM g0 b1 dB F) [(dB, .boolean)] [.ref g0, .int (zI b)] sz (zQi G [(dB, .boolean)] (wM g0 b1 dB) (fun r F9 => ∃ q : Int, r = zI q ∧ zsTake F b q F9)) 0 0 := by
  refine zmu_enter (by decide) (Nat.le_of_ble_eq_true rfl) ?_
  intro p e s m below meth c A H locs hx hb hr hml hown hlocks hnm hts hA hP hK hD hS ls hl
  have hown : s.vm.findClass RX1 = some m.cls := hown
  have hl : lv_has ls 6 [(0, .ref g0), (1, .int (zI b))] := hl
  refine lv_aload_n hx hb dX1_take_0 rfl (lv_at hl 0 rfl) ?_
  refine lv_iload_n hx hb dX1_take_1 rfl (lv_at hl 1 rfl) ?_
  refine zc_ro (n := 1) (As := [.int (zI b)]) (rest := []) ⟨hx, hb, hml, hown, hts⟩ (metX1_badSize l G hb0) (lw_V q151 q153 qs7 q16 q154) ⟨rfl, rfl⟩ (by decide +kernel) ⟨Nat.le_of_ble_eq_true rfl, Nat.le_of_ble_eq_true rfl⟩ hK hP 0 1 rfl rfl rfl rfl rfl hl (Nat.le_of_ble_eq_true rfl) ⟨Nat.zero_le _, Nat.zero_le _⟩ dX1_take_2 (fun r2 h2 => ?_)
  rcases h2 with ⟨er2, h2⟩ | ⟨er2, h2⟩
  · subst er2
    refine zr_if_eq (tgt := 11) hx hb dX1_take_5 (by decide) (by omega) (fun c5 => by exfalso; omega) (fun c5 => ?_)
    refine zr_bipush (-2) hx hb dX1_take_8 (by decide) ?_
    exact zret_mui (v := zI (-2)) hx hb hr hlocks dX1_take_10 F hP hK hD hS ⟨-2, rfl, Or.inl ⟨h2, rfl, rfl⟩⟩
  · subst er2
    refine zr_if_eq (tgt := 11) hx hb dX1_take_5 (by decide) (by omega) (fun c5 => ?_) (fun c5 => by exfalso; omega)
    obtain ⟨x, rfl⟩ := Int.eq_ofNat_of_zero_le (show 0 ≤ b by omega)
    refine zr_iconst hx hb dX1_take_11 ?_
    refine lv_istore_n (lv' := [(2, .int (zI (-1))), (0, .ref g0), (1, .int (zI ((x : Nat) : Int)))]) hx hb dX1_take_12 rfl hl (by decide) rfl (fun ls hl => ?_)
    refine zr_sipush ((1000 : Nat) : Int) hx hb dX1_take_13 (by decide) ?_
    refine lv_istore_n (lv' := [(3, .int (zI ((1000 : Nat) : Int))), (2, .int (zI (-1))), (0, .ref g0), (1, .int (zI ((x : Nat) : Int)))]) hx hb dX1_take_16 rfl hl (by decide) rfl (fun ls hl => ?_)
    refine zr_iconstN 0 hx hb dX1_take_17 rfl ?_
    refine lv_istore (lv' := [(4, .int (zI ((0 : Nat) : Int))), (3, .int (zI ((1000 : Nat) : Int))), (2, .int (zI (-1))), (0, .ref g0), (1, .int (zI ((x : Nat) : Int)))]) hx hb dX1_take_18 hl (by decide) rfl (fun ls hl => ?_)
    refine lpX1_take hx hb hown hts hK hml (Nat.le_of_ble_eq_true rfl) (Nat.le_of_ble_eq_true rfl) ⟨Nat.zero_le _, Nat.zero_le _⟩ hP hF (by omega) (fun bt bz ls hit hl => ?_) 257 0 (-1) 1000 ls (by omega) (by omega) zIT_0 (lv_sub hl [3, 4, 2, 1, 0] rfl)
    have hrg := zIT_rng hit (Nat.le_refl _)
    refine lv_iload_n hx hb dX1_take_69 rfl (lv_at hl 2 rfl) ?_
    refine zr_if_ge (tgt := 76) hx hb dX1_take_70 (by decide) (by omega) (fun c70 => ?_) (fun c70 => ?_)
    · obtain ⟨b9, rfl, y1, y2, y3, y4⟩ := zIT_pos hF hit (by omega)
      have hle := zRun_le (F := F) (b := b9) (by omega)
      refine lv_aload_n hx hb dX1_take_76 rfl (lv_at hl 0 rfl) ?_
      refine lv_iload_n hx hb dX1_take_77 rfl (lv_at hl 2 rfl) ?_
      refine lv_iload_n hx hb dX1_take_78 rfl (lv_at hl 1 rfl) ?_
      refine zr_iconstN 1 hx hb dX1_take_79 rfl ?_
      refine zc_muv (n := 3) (As := [.int (zI ((b9 : Nat) : Int)), .int (zI ((x : Nat) : Int)), .int (zI ((1 : Nat) : Int))]) (rest := []) ⟨hx, hb, hml, hown, hts⟩ (metX1_mark l G H.size (f := b9) (mm := x) (v := false) (by omega)) (lw_V q167 q169 qs11 q16 q170) ⟨rfl, rfl⟩ (by decide +kernel) ⟨Nat.le_of_ble_eq_true rfl, Nat.le_of_ble_eq_true rfl⟩ hK hP hD hS hA 0 1 rfl rfl rfl rfl rfl hl (Nat.le_of_ble_eq_true rfl) ⟨Nat.zero_le _, Nat.zero_le _⟩ dX1_take_80 (fun u80 H locs h80 hP hD hS => ?_)
      subst h80
      have hP : va_P G vwCl (wM g0 b1 dB (zM F b9 x false)) H := hP
      have hD : va_D A (wM g0 b1 dB (zM F b9 x false)) := hD
      refine lv_iload_n hx hb dX1_take_83 rfl (lv_at hl 2 rfl) ?_
      exact zret_mui (v := zI ((b9 : Nat) : Int)) hx hb hr hlocks dX1_take_84 (zM F b9 x false) hP hK hD hS ⟨_, rfl, Or.inr ⟨x, rfl, by omega, by omega, Or.inr ⟨b9, y2, y3, y4, rfl, rfl⟩⟩⟩
    · refine zr_bipush (-3) hx hb dX1_take_73 (by decide) ?_
      exact zret_mui (v := zI (-3)) hx hb hr hlocks dX1_take_75 F hP hK hD hS ⟨-3, rfl, Or.inr ⟨x, rfl, by omega, by omega, Or.inl ⟨zIT_neg hF hit c70, rfl, rfl⟩⟩⟩
set_option maxHeartbeats 4000000 in
set_option maxRecDepth 100000 in
theorem lpX1_near {p : Program} {l : Launch} {e : Env} {R : Room} {s : State} {m : MethodId} {args : Array Value} {below : List Frame} {meth : Method} {c : Code} {cells slots : Nat} {Q : State → Prop} {G : va_G} {H : Heap} {locs : List Loc} {g0 b1 : Nat} {dB : ClassId} {F : Nat → Bool} {x y : Nat} (hx : p.tables.exec = Jvm.exec) (hb : c.code = cX1_takeNear) (hown : s.vm.findClass RX1 = some m.cls) (hts : ∀ w ∈ lw_all, w.before args s = true) (hK : va_K G vwCl [(dB, .boolean)] s) (hml : c.maxLocals = 5) (hRf : 2 ≤ R.frames) (hRl : 42 ≤ R.locals) (hcs : cells ≤ R.cells ∧ slots ≤ R.slots) (hP : va_P G vwCl (wM g0 b1 dB F) H) (hF : zOk F) (hx9 : x ≤ 256) (hy9 : y < 256)
    (kx : ∀ (bt : Int) (ls : Array Slot), zIN F x y 256 bt →  lv_has ls 5 [(0, .ref g0), (1, .int (zI ((y : Nat) : Int))), (2, .int (zI ((x : Nat) : Int))), (3, .int (zI bt))] → W p l e R s m args below meth c H locs cells slots Q (F0 m 82 ls [])) :
    ∀ (d : Nat) (k : Nat) (bt : Int) (ls : Array Slot), 256 - k < d → k ≤ 256 → zIN F x y k bt →  lv_has ls 5 [(0, .ref g0), (1, .int (zI ((y : Nat) : Int))), (2, .int (zI ((x : Nat) : Int))), (3, .int (zI bt)), (4, .int (zI ((k : Nat) : Int)))] → W p l e R s m args below meth c H locs cells slots Q (F0 m 26 ls []) := by
  intro d
  induction d with
  | zero => intro k bt ls h; exact absurd h (Nat.not_lt_zero _)
  | succ d ih =>
    intro k bt ls hd h1 h2 hl
    have hrg := zIN_rng h2 h1
    refine lv_iload hx hb dX1_takeNear_26 (lv_at hl 4 rfl) ?_
    refine zr_sipush ((256 : Nat) : Int) hx hb dX1_takeNear_28 (by decide) ?_
    refine zr_icmp_ge (tgt := 82) hx hb dX1_takeNear_31 (by decide) (by omega) (fun c31 => ?_) (fun c31 => ?_)
    · have e9 : k = 256 := by omega
      subst e9
      exact kx bt ls h2 (lv_sub hl [0, 1, 2, 3] rfl)
    · refine lv_aload_n hx hb dX1_takeNear_34 rfl (lv_at hl 0 rfl) ?_
      refine lv_iload hx hb dX1_takeNear_35 (lv_at hl 4 rfl) ?_
      refine zc_ro (n := 1) (As := [.int (zI ((k : Nat) : Int))]) (rest := []) ⟨hx, hb, hml, hown, hts⟩ (metX1_begins l G (x := k) (by omega)) (lw_V q155 q157 qs8 q16 q158) ⟨rfl, rfl⟩ (by decide +kernel) ⟨Nat.le_trans (by decide) hRf, Nat.le_trans (by decide) hRl⟩ hK hP 0 1 rfl rfl rfl rfl rfl hl (Nat.le_of_ble_eq_true rfl) hcs dX1_takeNear_37 (fun r37 h37 => ?_)
      rcases h37 with ⟨er37, h37⟩ | ⟨er37, h37⟩
      · subst er37
        refine zr_if_eq (tgt := 76) hx hb dX1_takeNear_40 (by decide) (by omega) (fun c40 => by exfalso; omega) (fun c40 => ?_)
        refine lv_aload_n hx hb dX1_takeNear_43 rfl (lv_at hl 0 rfl) ?_
        refine lv_iload hx hb dX1_takeNear_44 (lv_at hl 4 rfl) ?_
        refine zc_ro (n := 1) (As := [.int (zI ((k : Nat) : Int))]) (rest := []) ⟨hx, hb, hml, hown, hts⟩ (metX1_run l G hF (x := k) (by omega)) (lw_V q163 q165 qs10 q16 q166) ⟨rfl, rfl⟩ (by decide +kernel) ⟨Nat.le_trans (by decide) hRf, Nat.le_trans (by decide) hRl⟩ hK hP 0 1 rfl rfl rfl rfl rfl hl (Nat.le_of_ble_eq_true rfl) hcs dX1_takeNear_46 (fun r46 h46 => ?_)
        subst h46
        have hr46 := zRun_256 F k
        refine lv_iload_n hx hb dX1_takeNear_49 rfl (lv_at hl 2 rfl) ?_
        refine zr_icmp_lt (tgt := 76) hx hb dX1_takeNear_50 (by decide) (by omega) (fun c50 => ?_) (fun c50 => ?_)
        · refine zr_iinc hx hb ((k + 1 : Nat) : Int) (lv' := [(4, .int (zI ((k + 1 : Nat) : Int))), (0, .ref g0), (1, .int (zI ((y : Nat) : Int))), (2, .int (zI ((x : Nat) : Int))), (3, .int (zI bt))]) dX1_takeNear_76 hl (k := 4) rfl (by omega) (by decide) rfl (fun ls hl => ?_)
          refine lv_goto (tgt := 26) hx hb dX1_takeNear_79 (by decide) ?_
          exact ih (k + 1) bt ls (by omega) (by omega) (zIN_skip h2 (fun _ => by omega)) (lv_sub hl [1, 2, 3, 4, 0] rfl)
        · refine lv_iload_n hx hb dX1_takeNear_53 rfl (lv_at hl 3 rfl) ?_
          refine zr_if_lt (tgt := 73) hx hb dX1_takeNear_54 (by decide) (by omega) (fun c54 => ?_) (fun c54 => ?_)
          · refine lv_iload hx hb dX1_takeNear_73 (lv_at hl 4 rfl) ?_
            refine lv_istore_n (lv' := [(3, .int (zI ((k : Nat) : Int))), (0, .ref g0), (1, .int (zI ((y : Nat) : Int))), (2, .int (zI ((x : Nat) : Int))), (4, .int (zI ((k : Nat) : Int)))]) hx hb dX1_takeNear_75 rfl hl (by decide) rfl (fun ls hl => ?_)
            refine zr_iinc hx hb ((k + 1 : Nat) : Int) (lv' := [(4, .int (zI ((k + 1 : Nat) : Int))), (3, .int (zI ((k : Nat) : Int))), (0, .ref g0), (1, .int (zI ((y : Nat) : Int))), (2, .int (zI ((x : Nat) : Int)))]) dX1_takeNear_76 hl (k := 4) rfl (by omega) (by decide) rfl (fun ls hl => ?_)
            refine lv_goto (tgt := 26) hx hb dX1_takeNear_79 (by decide) ?_
            exact ih (k + 1) ((k : Nat) : Int) ls (by omega) (by omega) (zIN_first h2 c54 h37 (by omega)) (lv_sub hl [2, 3, 4, 1, 0] rfl)
          · obtain ⟨b9, rfl, hb9⟩ := zIN_nat h2 c54
            refine lv_aload_n hx hb dX1_takeNear_57 rfl (lv_at hl 0 rfl) ?_
            refine lv_iload hx hb dX1_takeNear_58 (lv_at hl 4 rfl) ?_
            refine lv_iload_n hx hb dX1_takeNear_60 rfl (lv_at hl 1 rfl) ?_
            refine zc_ro (n := 2) (As := [.int (zI ((k : Nat) : Int)), .int (zI ((y : Nat) : Int))]) (rest := []) ⟨hx, hb, hml, hown, hts⟩ (metX1_away l G (x := k) (y := y) (by omega) (by omega)) (lw_V q175 q177 qs12 q16 q178) ⟨rfl, rfl⟩ (by decide +kernel) ⟨Nat.le_trans (by decide) hRf, Nat.le_trans (by decide) hRl⟩ hK hP 0 1 rfl rfl rfl rfl rfl hl (Nat.le_of_ble_eq_true rfl) hcs dX1_takeNear_61 (fun r61 h61 => ?_)
            subst h61
            refine lv_aload_n hx hb dX1_takeNear_64 rfl (lv_at hl 0 rfl) ?_
            refine lv_iload_n hx hb dX1_takeNear_65 rfl (lv_at hl 3 rfl) ?_
            refine lv_iload_n hx hb dX1_takeNear_66 rfl (lv_at hl 1 rfl) ?_
            refine zc_ro (n := 2) (As := [.int (zI ((b9 : Nat) : Int)), .int (zI ((y : Nat) : Int))]) (rest := [.int (zI ((zAw k y : Nat) : Int))]) ⟨hx, hb, hml, hown, hts⟩ (metX1_away l G (x := b9) (y := y) (by omega) (by omega)) (lw_V q175 q177 qs12 q16 q178) ⟨rfl, rfl⟩ (by decide +kernel) ⟨Nat.le_trans (by decide) hRf, Nat.le_trans (by decide) hRl⟩ hK hP 0 1 rfl rfl rfl rfl rfl hl (Nat.le_of_ble_eq_true rfl) hcs dX1_takeNear_67 (fun r67 h67 => ?_)
            subst h67
            have ha1 : zAw k y ≤ 512 := by unfold zAw; omega
            have ha2 : zAw b9 y ≤ 512 := by unfold zAw; omega
            refine zr_icmp_ge (tgt := 76) hx hb dX1_takeNear_70 (by decide) (by omega) (fun c70 => ?_) (fun c70 => ?_)
            · refine zr_iinc hx hb ((k + 1 : Nat) : Int) (lv' := [(4, .int (zI ((k + 1 : Nat) : Int))), (0, .ref g0), (1, .int (zI ((y : Nat) : Int))), (2, .int (zI ((x : Nat) : Int))), (3, .int (zI ((b9 : Nat) : Int)))]) dX1_takeNear_76 hl (k := 4) rfl (by omega) (by decide) rfl (fun ls hl => ?_)
              refine lv_goto (tgt := 26) hx hb dX1_takeNear_79 (by decide) ?_
              exact ih (k + 1) ((b9 : Nat) : Int) ls (by omega) (by omega) (zIN_keep h2 (by omega)) (lv_sub hl [1, 2, 3, 4, 0] rfl)
            · refine lv_iload hx hb dX1_takeNear_73 (lv_at hl 4 rfl) ?_
              refine lv_istore_n (lv' := [(3, .int (zI ((k : Nat) : Int))), (0, .ref g0), (1, .int (zI ((y : Nat) : Int))), (2, .int (zI ((x : Nat) : Int))), (4, .int (zI ((k : Nat) : Int)))]) hx hb dX1_takeNear_75 rfl hl (by decide) rfl (fun ls hl => ?_)
              refine zr_iinc hx hb ((k + 1 : Nat) : Int) (lv' := [(4, .int (zI ((k + 1 : Nat) : Int))), (3, .int (zI ((k : Nat) : Int))), (0, .ref g0), (1, .int (zI ((y : Nat) : Int))), (2, .int (zI ((x : Nat) : Int)))]) dX1_takeNear_76 hl (k := 4) rfl (by omega) (by decide) rfl (fun ls hl => ?_)
              refine lv_goto (tgt := 26) hx hb dX1_takeNear_79 (by decide) ?_
              exact ih (k + 1) ((k : Nat) : Int) ls (by omega) (by omega) (zIN_new h2 h37 (by omega) (by omega)) (lv_sub hl [2, 3, 4, 1, 0] rfl)
      · subst er37
        refine zr_if_eq (tgt := 76) hx hb dX1_takeNear_40 (by decide) (by omega) (fun c40 => ?_) (fun c40 => by exfalso; omega)
        refine zr_iinc hx hb ((k + 1 : Nat) : Int) (lv' := [(4, .int (zI ((k + 1 : Nat) : Int))), (0, .ref g0), (1, .int (zI ((y : Nat) : Int))), (2, .int (zI ((x : Nat) : Int))), (3, .int (zI bt))]) dX1_takeNear_76 hl (k := 4) rfl (by omega) (by decide) rfl (fun ls hl => ?_)
        refine lv_goto (tgt := 26) hx hb dX1_takeNear_79 (by decide) ?_
        exact ih (k + 1) bt ls (by omega) (by omega) (zIN_skip h2 (fun hz => absurd hz h37)) (lv_sub hl [1, 2, 3, 4, 0] rfl)
set_option maxHeartbeats 4000000 in
set_option maxRecDepth 100000 in
theorem metX1_takeNear (l : Launch) (G : va_G) (sz : Nat) {g0 b1 : Nat} {dB : ClassId} {F : Nat → Bool} (hF : zOk F) {a b : Int} (ha0 : zIn a) (hb0 : zIn b) : zMU l yX1_takeNear cX1_takeNear 5 (some .int) ({ frames := 2, cells := 0, slots := 0, locals := 42 } : Room) G (wM g0 b1 dB F) [(dB, .boolean)] [.ref g0, .int (zI a), .int (zI b)] sz (zQi G [(dB, .boolean)] (wM g0 b1 dB) (fun r F9 => ∃ q : Int, r = zI q ∧ zsNear F a b q F9)) 0 0 := by
  refine zmu_enter (by decide) (Nat.le_of_ble_eq_true rfl) ?_
  intro p e s m below meth c A H locs hx hb hr hml hown hlocks hnm hts hA hP hK hD hS ls hl
  have hown : s.vm.findClass RX1 = some m.cls := hown
  have hl : lv_has ls 5 [(0, .ref g0), (1, .int (zI a)), (2, .int (zI b))] := hl
  refine lv_aload_n hx hb dX1_takeNear_0 rfl (lv_at hl 0 rfl) ?_
  refine lv_iload_n hx hb dX1_takeNear_1 rfl (lv_at hl 1 rfl) ?_
  refine zc_ro (n := 1) (As := [.int (zI a)]) (rest := []) ⟨hx, hb, hml, hown, hts⟩ (metX1_badBlock l G ha0) (lw_V q159 q161 qs9 q16 q162) ⟨rfl, rfl⟩ (by decide +kernel) ⟨Nat.le_of_ble_eq_true rfl, Nat.le_of_ble_eq_true rfl⟩ hK hP 0 1 rfl rfl rfl rfl rfl hl (Nat.le_of_ble_eq_true rfl) ⟨Nat.zero_le _, Nat.zero_le _⟩ dX1_takeNear_2 (fun r2 h2 => ?_)
  rcases h2 with ⟨er2, h2⟩ | ⟨er2, h2⟩
  · subst er2
    refine zr_if_eq (tgt := 10) hx hb dX1_takeNear_5 (by decide) (by omega) (fun c5 => by exfalso; omega) (fun c5 => ?_)
    refine zr_iconst hx hb dX1_takeNear_8 ?_
    exact zret_mui (v := zI (-1)) hx hb hr hlocks dX1_takeNear_9 F hP hK hD hS ⟨-1, rfl, Or.inl ⟨h2, rfl, rfl⟩⟩
  · subst er2
    refine zr_if_eq (tgt := 10) hx hb dX1_takeNear_5 (by decide) (by omega) (fun c5 => ?_) (fun c5 => by exfalso; omega)
    obtain ⟨y, rfl⟩ := Int.eq_ofNat_of_zero_le (show 0 ≤ a by omega)
    refine lv_aload_n hx hb dX1_takeNear_10 rfl (lv_at hl 0 rfl) ?_
    refine lv_iload_n hx hb dX1_takeNear_11 rfl (lv_at hl 2 rfl) ?_
    refine zc_ro (n := 1) (As := [.int (zI b)]) (rest := []) ⟨hx, hb, hml, hown, hts⟩ (metX1_badSize l G hb0) (lw_V q151 q153 qs7 q16 q154) ⟨rfl, rfl⟩ (by decide +kernel) ⟨Nat.le_of_ble_eq_true rfl, Nat.le_of_ble_eq_true rfl⟩ hK hP 0 1 rfl rfl rfl rfl rfl hl (Nat.le_of_ble_eq_true rfl) ⟨Nat.zero_le _, Nat.zero_le _⟩ dX1_takeNear_12 (fun r12 h12 => ?_)
    rcases h12 with ⟨er12, h12⟩ | ⟨er12, h12⟩
    · subst er12
      refine zr_if_eq (tgt := 21) hx hb dX1_takeNear_15 (by decide) (by omega) (fun c15 => by exfalso; omega) (fun c15 => ?_)
      refine zr_bipush (-2) hx hb dX1_takeNear_18 (by decide) ?_
      exact zret_mui (v := zI (-2)) hx hb hr hlocks dX1_takeNear_20 F hP hK hD hS ⟨-2, rfl, Or.inr ⟨y, rfl, by omega, Or.inl ⟨h12, rfl, rfl⟩⟩⟩
    · subst er12
      refine zr_if_eq (tgt := 21) hx hb dX1_takeNear_15 (by decide) (by omega) (fun c15 => ?_) (fun c15 => by exfalso; omega)
      obtain ⟨x, rfl⟩ := Int.eq_ofNat_of_zero_le (show 0 ≤ b by omega)
      refine zr_iconst hx hb dX1_takeNear_21 ?_
      refine lv_istore_n (lv' := [(3, .int (zI (-1))), (0, .ref g0), (1, .int (zI ((y : Nat) : Int))), (2, .int (zI ((x : Nat) : Int)))]) hx hb dX1_takeNear_22 rfl hl (by decide) rfl (fun ls hl => ?_)
      refine zr_iconstN 0 hx hb dX1_takeNear_23 rfl ?_
      refine lv_istore (lv' := [(4, .int (zI ((0 : Nat) : Int))), (3, .int (zI (-1))), (0, .ref g0), (1, .int (zI ((y : Nat) : Int))), (2, .int (zI ((x : Nat) : Int)))]) hx hb dX1_takeNear_24 hl (by decide) rfl (fun ls hl => ?_)
      refine lpX1_near hx hb hown hts hK hml (Nat.le_of_ble_eq_true rfl) (Nat.le_of_ble_eq_true rfl) ⟨Nat.zero_le _, Nat.zero_le _⟩ hP hF (by omega) (by omega) (fun bt ls hit hl => ?_) 257 0 (-1) ls (by omega) (by omega) zIN_0 (lv_sub hl [2, 3, 4, 1, 0] rfl)
      have hrg := zIN_rng hit (Nat.le_refl _)
      refine lv_iload_n hx hb dX1_takeNear_82 rfl (lv_at hl 3 rfl) ?_
      refine zr_if_ge (tgt := 89) hx hb dX1_takeNear_83 (by decide) (by omega) (fun c83 => ?_) (fun c83 => ?_)
      · obtain ⟨b9, rfl, y1, y2, y3, y4⟩ := zIN_pos hF hit (by omega)
        have hle := zRun_le (F := F) (b := b9) (by omega)
        refine lv_aload_n hx hb dX1_takeNear_89 rfl (lv_at hl 0 rfl) ?_
        refine lv_iload_n hx hb dX1_takeNear_90 rfl (lv_at hl 3 rfl) ?_
        refine lv_iload_n hx hb dX1_takeNear_91 rfl (lv_at hl 2 rfl) ?_
        refine zr_iconstN 1 hx hb dX1_takeNear_92 rfl ?_
        refine zc_muv (n := 3) (As := [.int (zI ((b9 : Nat) : Int)), .int (zI ((x : Nat) : Int)), .int (zI ((1 : Nat) : Int))]) (rest := []) ⟨hx, hb, hml, hown, hts⟩ (metX1_mark l G H.size (f := b9) (mm := x) (v := false) (by omega)) (lw_V q167 q169 qs11 q16 q170) ⟨rfl, rfl⟩ (by decide +kernel) ⟨Nat.le_of_ble_eq_true rfl, Nat.le_of_ble_eq_true rfl⟩ hK hP hD hS hA 0 1 rfl rfl rfl rfl rfl hl (Nat.le_of_ble_eq_true rfl) ⟨Nat.zero_le _, Nat.zero_le _⟩ dX1_takeNear_93 (fun u93 H locs h93 hP hD hS => ?_)
        subst h93
        have hP : va_P G vwCl (wM g0 b1 dB (zM F b9 x false)) H := hP
        have hD : va_D A (wM g0 b1 dB (zM F b9 x false)) := hD
        refine lv_iload_n hx hb dX1_takeNear_96 rfl (lv_at hl 3 rfl) ?_
        exact zret_mui (v := zI ((b9 : Nat) : Int)) hx hb hr hlocks dX1_takeNear_97 (zM F b9 x false) hP hK hD hS ⟨_, rfl, Or.inr ⟨y, rfl, by omega, Or.inr ⟨x, rfl, by omega, by omega, Or.inr ⟨b9, y2, y3, y4, rfl, rfl⟩⟩⟩⟩
      · refine zr_bipush (-3) hx hb dX1_takeNear_86 (by decide) ?_
        exact zret_mui (v := zI (-3)) hx hb hr hlocks dX1_takeNear_88 F hP hK hD hS ⟨-3, rfl, Or.inr ⟨y, rfl, by omega, Or.inr ⟨x, rfl, by omega, by omega, Or.inl ⟨zIN_neg hF hit c83, rfl, rfl⟩⟩⟩⟩
set_option maxHeartbeats 4000000 in
set_option maxRecDepth 100000 in
theorem metX1_takeAt (l : Launch) (G : va_G) (sz : Nat) {g0 b1 : Nat} {dB : ClassId} {F : Nat → Bool} (hF : zOk F) {a b : Int} (ha0 : zIn a) (hb0 : zIn b) : zMU l yX1_takeAt cX1_takeAt 4 (some .int) ({ frames := 4, cells := 0, slots := 0, locals := 85 } : Room) G (wM g0 b1 dB F) [(dB, .boolean)] [.ref g0, .int (zI a), .int (zI b)] sz (zQi G [(dB, .boolean)] (wM g0 b1 dB) (fun r F9 => ∃ q : Int, r = zI q ∧ zsAt F a b q F9)) 0 0 := by
  refine zmu_enter (by decide) (Nat.le_of_ble_eq_true rfl) ?_
  intro p e s m below meth c A H locs hx hb hr hml hown hlocks hnm hts hA hP hK hD hS ls hl
  have hown : s.vm.findClass RX1 = some m.cls := hown
  have hl : lv_has ls 4 [(0, .ref g0), (1, .int (zI a)), (2, .int (zI b))] := hl
  refine lv_aload_n hx hb dX1_takeAt_0 rfl (lv_at hl 0 rfl) ?_
  refine lv_iload_n hx hb dX1_takeAt_1 rfl (lv_at hl 1 rfl) ?_
  refine lv_iload_n hx hb dX1_takeAt_2 rfl (lv_at hl 2 rfl) ?_
  refine zc_ro (n := 2) (As := [.int (zI a), .int (zI b)]) (rest := []) ⟨hx, hb, hml, hown, hts⟩ (metX1_refusal l G ha0 hb0) (lw_V q183 q185 qs13 q16 q186) ⟨rfl, rfl⟩ (by decide +kernel) ⟨Nat.le_of_ble_eq_true rfl, Nat.le_of_ble_eq_true rfl⟩ hK hP 0 1 rfl rfl rfl rfl rfl hl (Nat.le_of_ble_eq_true rfl) ⟨Nat.zero_le _, Nat.zero_le _⟩ dX1_takeAt_3 (fun r3 h3 => ?_)
  rcases h3 with ⟨rfl, hq1⟩ | ⟨rfl, hq1, hq2, hq3⟩ | ⟨rfl, hq1, hq2, hq3, hq4⟩
  · refine lv_istore_n (lv' := [(3, .int (zI (-1))), (0, .ref g0), (1, .int (zI a)), (2, .int (zI b))]) hx hb dX1_takeAt_6 rfl hl (by decide) rfl (fun ls hl => ?_)
    refine lv_iload_n hx hb dX1_takeAt_7 rfl (lv_at hl 0 rfl) ?_
    refine zr_if_ge (tgt := 13) hx hb dX1_takeAt_8 (by decide) (by omega) (fun c8 => by exfalso; omega) (fun c8 => ?_)
    refine lv_iload_n hx hb dX1_takeAt_11 rfl (lv_at hl 0 rfl) ?_
    exact zret_mui (v := zI (-1)) hx hb hr hlocks dX1_takeAt_12 F hP hK hD hS ⟨-1, rfl, Or.inl ⟨hq1, rfl, rfl⟩⟩
  · refine lv_istore_n (lv' := [(3, .int (zI (-2))), (0, .ref g0), (1, .int (zI a)), (2, .int (zI b))]) hx hb dX1_takeAt_6 rfl hl (by decide) rfl (fun ls hl => ?_)
    refine lv_iload_n hx hb dX1_takeAt_7 rfl (lv_at hl 0 rfl) ?_
    refine zr_if_ge (tgt := 13) hx hb dX1_takeAt_8 (by decide) (by omega) (fun c8 => by exfalso; omega) (fun c8 => ?_)
    refine lv_iload_n hx hb dX1_takeAt_11 rfl (lv_at hl 0 rfl) ?_
    exact zret_mui (v := zI (-2)) hx hb hr hlocks dX1_takeAt_12 F hP hK hD hS (by obtain ⟨x, rfl⟩ := Int.eq_ofNat_of_zero_le hq1; exact ⟨-2, rfl, Or.inr ⟨x, rfl, by omega, Or.inl ⟨hq3, rfl, rfl⟩⟩⟩)
  · refine lv_istore_n (lv' := [(3, .int (zI ((0 : Nat) : Int))), (0, .ref g0), (1, .int (zI a)), (2, .int (zI b))]) hx hb dX1_takeAt_6 rfl hl (by decide) rfl (fun ls hl => ?_)
    refine lv_iload_n hx hb dX1_takeAt_7 rfl (lv_at hl 0 rfl) ?_
    refine zr_if_ge (tgt := 13) hx hb dX1_takeAt_8 (by decide) (by omega) (fun c8 => ?_) (fun c8 => by exfalso; omega)
    obtain ⟨x, rfl⟩ := Int.eq_ofNat_of_zero_le (show 0 ≤ a by omega)
    obtain ⟨j, rfl⟩ := Int.eq_ofNat_of_zero_le (show 0 ≤ b by omega)
    refine lv_aload_n hx hb dX1_takeAt_13 rfl (lv_at hl 1 rfl) ?_
    refine lv_iload_n hx hb dX1_takeAt_14 rfl (lv_at hl 2 rfl) ?_
    refine zc_ro (n := 1) (As := [.int (zI ((x : Nat) : Int))]) (rest := []) ⟨hx, hb, hml, hown, hts⟩ (metX1_run l G hF (x := x) (by omega)) (lw_V q163 q165 qs10 q16 q166) ⟨rfl, rfl⟩ (by decide +kernel) ⟨Nat.le_of_ble_eq_true rfl, Nat.le_of_ble_eq_true rfl⟩ hK hP 0 1 rfl rfl rfl rfl rfl hl (Nat.le_of_ble_eq_true rfl) ⟨Nat.zero_le _, Nat.zero_le _⟩ dX1_takeAt_15 (fun r15 h15 => ?_)
    subst h15
    have hr15 := zRun_256 F x
    refine lv_iload_n hx hb dX1_takeAt_18 rfl (lv_at hl 3 rfl) ?_
    refine zr_icmp_ge (tgt := 25) hx hb dX1_takeAt_19 (by decide) (by omega) (fun c19 => ?_) (fun c19 => ?_)
    · refine lv_aload_n hx hb dX1_takeAt_25 rfl (lv_at hl 1 rfl) ?_
      refine lv_iload_n hx hb dX1_takeAt_26 rfl (lv_at hl 2 rfl) ?_
      refine lv_iload_n hx hb dX1_takeAt_27 rfl (lv_at hl 3 rfl) ?_
      refine zr_iconstN 1 hx hb dX1_takeAt_28 rfl ?_
      refine zc_muv (n := 3) (As := [.int (zI ((x : Nat) : Int)), .int (zI ((j : Nat) : Int)), .int (zI ((1 : Nat) : Int))]) (rest := []) ⟨hx, hb, hml, hown, hts⟩ (metX1_mark l G H.size (f := x) (mm := j) (v := false) (by omega)) (lw_V q167 q169 qs11 q16 q170) ⟨rfl, rfl⟩ (by decide +kernel) ⟨Nat.le_of_ble_eq_true rfl, Nat.le_of_ble_eq_true rfl⟩ hK hP hD hS hA 0 1 rfl rfl rfl rfl rfl hl (Nat.le_of_ble_eq_true rfl) ⟨Nat.zero_le _, Nat.zero_le _⟩ dX1_takeAt_29 (fun u29 H locs h29 hP hD hS => ?_)
      subst h29
      have hP : va_P G vwCl (wM g0 b1 dB (zM F x j false)) H := hP
      have hD : va_D A (wM g0 b1 dB (zM F x j false)) := hD
      refine lv_aload_n hx hb dX1_takeAt_32 rfl (lv_at hl 1 rfl) ?_
      refine zc_ro (n := 0) (As := []) (rest := []) ⟨hx, hb, hml, hown, hts⟩ (metX1_extents l G (zM_ok hF (by omega))) (lw_V q187 q188 q189 q16 q190) ⟨rfl, rfl⟩ (by decide +kernel) ⟨Nat.le_of_ble_eq_true rfl, Nat.le_of_ble_eq_true rfl⟩ hK hP 0 1 rfl rfl rfl rfl rfl hl (Nat.le_of_ble_eq_true rfl) ⟨Nat.zero_le _, Nat.zero_le _⟩ dX1_takeAt_33 (fun r33 h33 => ?_)
      subst h33
      exact zret_mui (v := zI ((zCt (zBg (zM F x j false)) 256 : Nat) : Int)) hx hb hr hlocks dX1_takeAt_36 (zM F x j false) hP hK hD hS ⟨_, rfl, Or.inr ⟨x, rfl, by omega, Or.inr ⟨j, rfl, by omega, by omega, Or.inr ⟨fun z g1 g2 => by have := zRun_in (F := F) (b := x) (i := z - x) (by omega); rw [show x + (z - x) = z by omega] at this; exact this, rfl, rfl⟩⟩⟩⟩
    · refine zr_bipush (-4) hx hb dX1_takeAt_22 (by decide) ?_
      exact zret_mui (v := zI (-4)) hx hb hr hlocks dX1_takeAt_24 F hP hK hD hS ⟨-4, rfl, Or.inr ⟨x, rfl, by omega, Or.inr ⟨j, rfl, by omega, by omega, Or.inl ⟨⟨x + zRun F x, by omega, by omega, zRun_end hF x⟩, rfl, rfl⟩⟩⟩⟩
set_option maxHeartbeats 4000000 in
set_option maxRecDepth 100000 in
theorem lpX1_give {p : Program} {l : Launch} {e : Env} {R : Room} {s : State} {m : MethodId} {args : Array Value} {below : List Frame} {meth : Method} {c : Code} {cells slots : Nat} {Q : State → Prop} {G : va_G} {H : Heap} {locs : List Loc} {g0 b1 : Nat} {dB : ClassId} {F : Nat → Bool} {x j : Nat} (hx : p.tables.exec = Jvm.exec) (hb : c.code = cX1_give) (hown : s.vm.findClass RX1 = some m.cls) (hts : ∀ w ∈ lw_all, w.before args s = true) (hK : va_K G vwCl [(dB, .boolean)] s)  (hP : va_P G vwCl (wM g0 b1 dB F) H) (hxj : x + j ≤ 256)
    (kx : ∀  (ls : Array Slot), (∀ z, x ≤ z → z < x + j → F z = false) →  lv_has ls 5 [(0, .ref g0), (1, .int (zI ((x : Nat) : Int))), (2, .int (zI ((j : Nat) : Int)))] → W p l e R s m args below meth c H locs cells slots Q (F0 m 43 ls []))
    (kr : ∀  (ls : Array Slot), (∃ z, x ≤ z ∧ z < x + j ∧ F z = true) →  lv_has ls 5 [(0, .ref g0)] → W p l e R s m args below meth c H locs cells slots Q (F0 m 34 ls [])) :
    ∀ (d : Nat) (k : Nat) (ls : Array Slot), j - k < d → k ≤ j → (∀ z, x ≤ z → z < x + k → F z = false) →  lv_has ls 5 [(0, .ref g0), (1, .int (zI ((x : Nat) : Int))), (2, .int (zI ((j : Nat) : Int))), (4, .int (zI ((x + k : Nat) : Int)))] → W p l e R s m args below meth c H locs cells slots Q (F0 m 16 ls []) := by
  intro d
  induction d with
  | zero => intro k ls h; exact absurd h (Nat.not_lt_zero _)
  | succ d ih =>
    intro k ls hd h1 h2 hl
    refine lv_iload hx hb dX1_give_16 (lv_at hl 3 rfl) ?_
    refine lv_iload_n hx hb dX1_give_18 rfl (lv_at hl 1 rfl) ?_
    refine lv_iload_n hx hb dX1_give_19 rfl (lv_at hl 2 rfl) ?_
    refine zr_iaddN hx hb dX1_give_20 ?_
    refine zr_icmp_ge (tgt := 43) hx hb dX1_give_21 (by decide) (by omega) (fun c21 => ?_) (fun c21 => ?_)
    · exact kx ls (fun z g1 g2 => h2 z g1 (by omega)) (lv_sub hl [0, 1, 2] rfl)
    · refine lv_aload_n hx hb dX1_give_24 rfl (lv_at hl 0 rfl) ?_
      refine va_get (D := G) (ci := 1) (v := .ref b1) (C := RX1) (T := TX1) (N := 1) hx hb hts in_X1 hown hK hP 0 rfl rfl 0 (by decide) (hts _ q142) (fun _ h9 => h9) rfl dX1_give_25 ?_
      refine lv_iload hx hb dX1_give_28 (lv_at hl 3 rfl) ?_
      refine zr_zald hx hb hK hP 1 0 rfl rfl (x + k) rfl (by omega) (by decide) dX1_give_30 (fun c30 => ?_) (fun c30 => ?_)
      · refine zr_if_ne (tgt := 37) hx hb dX1_give_31 (by decide) (by omega) (fun c31 => by exfalso; omega) (fun c31 => ?_)
        exact kr ls ⟨x + k, by omega, by omega, c30⟩ (lv_sub hl [0] rfl)
      · refine zr_if_ne (tgt := 37) hx hb dX1_give_31 (by decide) (by omega) (fun c31 => ?_) (fun c31 => by exfalso; omega)
        refine zr_iinc hx hb ((x + (k + 1) : Nat) : Int) (lv' := [(4, .int (zI ((x + (k + 1) : Nat) : Int))), (0, .ref g0), (1, .int (zI ((x : Nat) : Int))), (2, .int (zI ((j : Nat) : Int)))]) dX1_give_37 hl (k := 3) rfl (by omega) (by decide) rfl (fun ls hl => ?_)
        refine lv_goto (tgt := 16) hx hb dX1_give_40 (by decide) ?_
        refine ih (k + 1) ls (by omega) (by omega) (fun z g1 g2 => ?_) (lv_sub hl [1, 2, 3, 0] rfl)
        rcases Nat.lt_or_ge z (x + k) with q | q
        · exact h2 z g1 q
        · rw [show z = x + k by omega]; exact c30
set_option maxHeartbeats 4000000 in
set_option maxRecDepth 100000 in
theorem metX1_give (l : Launch) (G : va_G) (sz : Nat) {g0 b1 : Nat} {dB : ClassId} {F : Nat → Bool} (hF : zOk F) {a b : Int} (ha0 : zIn a) (hb0 : zIn b) : zMU l yX1_give cX1_give 5 (some .int) ({ frames := 2, cells := 0, slots := 0, locals := 46 } : Room) G (wM g0 b1 dB F) [(dB, .boolean)] [.ref g0, .int (zI a), .int (zI b)] sz (zQi G [(dB, .boolean)] (wM g0 b1 dB) (fun r F9 => ∃ q : Int, r = zI q ∧ zsGive F a b q F9)) 0 0 := by
  refine zmu_enter (by decide) (Nat.le_of_ble_eq_true rfl) ?_
  intro p e s m below meth c A H locs hx hb hr hml hown hlocks hnm hts hA hP hK hD hS ls hl
  have hown : s.vm.findClass RX1 = some m.cls := hown
  have hl : lv_has ls 5 [(0, .ref g0), (1, .int (zI a)), (2, .int (zI b))] := hl
  refine lv_aload_n hx hb dX1_give_0 rfl (lv_at hl 0 rfl) ?_
  refine lv_iload_n hx hb dX1_give_1 rfl (lv_at hl 1 rfl) ?_
  refine lv_iload_n hx hb dX1_give_2 rfl (lv_at hl 2 rfl) ?_
  refine zc_ro (n := 2) (As := [.int (zI a), .int (zI b)]) (rest := []) ⟨hx, hb, hml, hown, hts⟩ (metX1_refusal l G ha0 hb0) (lw_V q183 q185 qs13 q16 q186) ⟨rfl, rfl⟩ (by decide +kernel) ⟨Nat.le_of_ble_eq_true rfl, Nat.le_of_ble_eq_true rfl⟩ hK hP 0 1 rfl rfl rfl rfl rfl hl (Nat.le_of_ble_eq_true rfl) ⟨Nat.zero_le _, Nat.zero_le _⟩ dX1_give_3 (fun r3 h3 => ?_)
  rcases h3 with ⟨rfl, hq1⟩ | ⟨rfl, hq1, hq2, hq3⟩ | ⟨rfl, hq1, hq2, hq3, hq4⟩
  · refine lv_istore_n (lv' := [(3, .int (zI (-1))), (0, .ref g0), (1, .int (zI a)), (2, .int (zI b))]) hx hb dX1_give_6 rfl hl (by decide) rfl (fun ls hl => ?_)
    refine lv_iload_n hx hb dX1_give_7 rfl (lv_at hl 0 rfl) ?_
    refine zr_if_ge (tgt := 13) hx hb dX1_give_8 (by decide) (by omega) (fun c8 => by exfalso; omega) (fun c8 => ?_)
    refine lv_iload_n hx hb dX1_give_11 rfl (lv_at hl 0 rfl) ?_
    exact zret_mui (v := zI (-1)) hx hb hr hlocks dX1_give_12 F hP hK hD hS ⟨-1, rfl, Or.inl ⟨hq1, rfl, rfl⟩⟩
  · refine lv_istore_n (lv' := [(3, .int (zI (-2))), (0, .ref g0), (1, .int (zI a)), (2, .int (zI b))]) hx hb dX1_give_6 rfl hl (by decide) rfl (fun ls hl => ?_)
    refine lv_iload_n hx hb dX1_give_7 rfl (lv_at hl 0 rfl) ?_
    refine zr_if_ge (tgt := 13) hx hb dX1_give_8 (by decide) (by omega) (fun c8 => by exfalso; omega) (fun c8 => ?_)
    refine lv_iload_n hx hb dX1_give_11 rfl (lv_at hl 0 rfl) ?_
    exact zret_mui (v := zI (-2)) hx hb hr hlocks dX1_give_12 F hP hK hD hS (by obtain ⟨x, rfl⟩ := Int.eq_ofNat_of_zero_le hq1; exact ⟨-2, rfl, Or.inr ⟨x, rfl, by omega, Or.inl ⟨hq3, rfl, rfl⟩⟩⟩)
  · refine lv_istore_n (lv' := [(3, .int (zI ((0 : Nat) : Int))), (0, .ref g0), (1, .int (zI a)), (2, .int (zI b))]) hx hb dX1_give_6 rfl hl (by decide) rfl (fun ls hl => ?_)
    refine lv_iload_n hx hb dX1_give_7 rfl (lv_at hl 0 rfl) ?_
    refine zr_if_ge (tgt := 13) hx hb dX1_give_8 (by decide) (by omega) (fun c8 => ?_) (fun c8 => by exfalso; omega)
    obtain ⟨x, rfl⟩ := Int.eq_ofNat_of_zero_le (show 0 ≤ a by omega)
    obtain ⟨j, rfl⟩ := Int.eq_ofNat_of_zero_le (show 0 ≤ b by omega)
    refine lv_iload_n hx hb dX1_give_13 rfl (lv_at hl 2 rfl) ?_
    refine lv_istore (lv' := [(4, .int (zI ((x : Nat) : Int))), (3, .int (zI ((0 : Nat) : Int))), (0, .ref g0), (1, .int (zI ((x : Nat) : Int))), (2, .int (zI ((j : Nat) : Int)))]) hx hb dX1_give_14 hl (by decide) rfl (fun ls hl => ?_)
    refine lpX1_give hx hb hown hts hK hP (x := x) (j := j) (by omega) (fun ls hk1 hl => ?_) (fun ls hk1 hl => ?_) (j + 1) 0 ls (by omega) (by omega) (fun z g1 g2 => by omega) (lv_sub hl [2, 3, 4, 0] rfl)
    · refine lv_aload_n hx hb dX1_give_43 rfl (lv_at hl 0 rfl) ?_
      refine lv_iload_n hx hb dX1_give_44 rfl (lv_at hl 1 rfl) ?_
      refine lv_iload_n hx hb dX1_give_45 rfl (lv_at hl 2 rfl) ?_
      refine zr_iconstN 0 hx hb dX1_give_46 rfl ?_
      refine zc_muv (n := 3) (As := [.int (zI ((x : Nat) : Int)), .int (zI ((j : Nat) : Int)), .int (zI ((0 : Nat) : Int))]) (rest := []) ⟨hx, hb, hml, hown, hts⟩ (metX1_mark l G H.size (f := x) (mm := j) (v := true) (by omega)) (lw_V q167 q169 qs11 q16 q170) ⟨rfl, rfl⟩ (by decide +kernel) ⟨Nat.le_of_ble_eq_true rfl, Nat.le_of_ble_eq_true rfl⟩ hK hP hD hS hA 0 1 rfl rfl rfl rfl rfl hl (Nat.le_of_ble_eq_true rfl) ⟨Nat.zero_le _, Nat.zero_le _⟩ dX1_give_47 (fun u47 H locs h47 hP hD hS => ?_)
      subst h47
      have hP : va_P G vwCl (wM g0 b1 dB (zM F x j true)) H := hP
      have hD : va_D A (wM g0 b1 dB (zM F x j true)) := hD
      refine lv_aload_n hx hb dX1_give_50 rfl (lv_at hl 0 rfl) ?_
      refine lv_iload_n hx hb dX1_give_51 rfl (lv_at hl 1 rfl) ?_
      refine zc_ro (n := 1) (As := [.int (zI ((x : Nat) : Int))]) (rest := []) ⟨hx, hb, hml, hown, hts⟩ (metX1_sizeAt l G (zM_ok hF (by omega)) (b := ((x : Nat) : Int)) (by omega)) (lw_V q199 q200 q201 q16 q202) ⟨rfl, rfl⟩ (by decide +kernel) ⟨Nat.le_of_ble_eq_true rfl, Nat.le_of_ble_eq_true rfl⟩ hK hP 0 1 rfl rfl rfl rfl rfl hl (Nat.le_of_ble_eq_true rfl) ⟨Nat.zero_le _, Nat.zero_le _⟩ dX1_give_52 (fun r52 h52 => ?_)
      obtain ⟨q9, rfl, hq9⟩ := h52
      exact zret_mui (v := zI q9) hx hb hr hlocks dX1_give_55 (zM F x j true) hP hK hD hS ⟨_, rfl, Or.inr ⟨x, rfl, by omega, Or.inr ⟨j, rfl, by omega, by omega, Or.inr ⟨hk1, rfl, zsSizeAt_nat hq9 (by omega)⟩⟩⟩⟩
    · refine zr_bipush (-5) hx hb dX1_give_34 (by decide) ?_
      exact zret_mui (v := zI (-5)) hx hb hr hlocks dX1_give_36 F hP hK hD hS ⟨-5, rfl, Or.inr ⟨x, rfl, by omega, Or.inr ⟨j, rfl, by omega, by omega, Or.inl ⟨hk1, rfl, rfl⟩⟩⟩⟩
set_option maxHeartbeats 4000000 in
set_option maxRecDepth 100000 in
theorem lpX1_piecesI {p : Program} {l : Launch} {e : Env} {R : Room} {s : State} {m : MethodId} {args : Array Value} {below : List Frame} {meth : Method} {c : Code} {cells slots : Nat} {Q : State → Prop} {G : va_G} {H : Heap} {locs : List Loc} {g0 b1 : Nat} {dB : ClassId} {F : Nat → Bool} {x g k mo : Nat} (hx : p.tables.exec = Jvm.exec) (hb : c.code = cX1_takePieces) (hown : s.vm.findClass RX1 = some m.cls) (hts : ∀ w ∈ lw_all, w.before args s = true) (hK : va_K G vwCl [(dB, .boolean)] s) (hml : c.maxLocals = 7) (hRf : 2 ≤ R.frames) (hRl : 46 ≤ R.locals) (hcs : cells ≤ R.cells ∧ slots ≤ R.slots) (hP : va_P G vwCl (wM g0 b1 dB F) H) (hF : zOk F) (hmo : mo ≤ 256)
    (kx : ∀ (pl : Int) (ls : Array Slot), zIL F mo 0 pl →  lv_has ls 7 [(0, .ref g0), (1, .int (zI ((x : Nat) : Int))), (2, .int (zI ((g : Nat) : Int))), (3, .int (zI ((k : Nat) : Int))), (4, .int (zI ((mo : Nat) : Int))), (5, .int (zI pl))] → W p l e R s m args below meth c H locs cells slots Q (F0 m 76 ls [])) :
    ∀ (d : Nat) (q : Nat) (pl : Int) (ls : Array Slot), q < d → q ≤ 256 → zIL F mo q pl →  lv_has ls 7 [(0, .ref g0), (1, .int (zI ((x : Nat) : Int))), (2, .int (zI ((g : Nat) : Int))), (3, .int (zI ((k : Nat) : Int))), (4, .int (zI ((mo : Nat) : Int))), (5, .int (zI pl)), (6, .int (zI (((q : Nat) : Int) - ((1 : Nat) : Int))))] → W p l e R s m args below meth c H locs cells slots Q (F0 m 41 ls []) := by
  intro d
  induction d with
  | zero => intro q pl ls h; exact absurd h (Nat.not_lt_zero _)
  | succ d ih =>
    intro q pl ls hd h1 h2 hl
    have hrg := zIL_rng hF h2
    refine lv_iload hx hb dX1_takePieces_41 (lv_at hl 6 rfl) ?_
    refine zr_if_lt (tgt := 76) hx hb dX1_takePieces_43 (by decide) (by omega) (fun c43 => ?_) (fun c43 => ?_)
    · have e9 : q = 0 := by omega
      subst e9
      exact kx pl ls h2 (lv_sub hl [0, 1, 2, 3, 4, 5] rfl)
    · obtain ⟨q, rfl⟩ : ∃ z, q = z + 1 := ⟨q - 1, by omega⟩
      have e9 : ((((q + 1) : Nat) : Int) - ((1 : Nat) : Int)) = ((q : Nat) : Int) := by omega
      rw [e9] at hl
      refine lv_aload_n hx hb dX1_takePieces_46 rfl (lv_at hl 0 rfl) ?_
      refine lv_iload hx hb dX1_takePieces_47 (lv_at hl 6 rfl) ?_
      refine zc_ro (n := 1) (As := [.int (zI ((q : Nat) : Int))]) (rest := []) ⟨hx, hb, hml, hown, hts⟩ (metX1_begins l G (x := q) (by omega)) (lw_V q155 q157 qs8 q16 q158) ⟨rfl, rfl⟩ (by decide +kernel) ⟨Nat.le_trans (by decide) hRf, Nat.le_trans (by decide) hRl⟩ hK hP 0 1 rfl rfl rfl rfl rfl hl (Nat.le_of_ble_eq_true rfl) hcs dX1_takePieces_49 (fun r49 h49 => ?_)
      rcases h49 with ⟨er49, h49⟩ | ⟨er49, h49⟩
      · subst er49
        refine zr_if_eq (tgt := 70) hx hb dX1_takePieces_52 (by decide) (by omega) (fun c52 => by exfalso; omega) (fun c52 => ?_)
        refine lv_aload_n hx hb dX1_takePieces_55 rfl (lv_at hl 0 rfl) ?_
        refine lv_iload hx hb dX1_takePieces_56 (lv_at hl 6 rfl) ?_
        refine zc_ro (n := 1) (As := [.int (zI ((q : Nat) : Int))]) (rest := []) ⟨hx, hb, hml, hown, hts⟩ (metX1_run l G hF (x := q) (by omega)) (lw_V q163 q165 qs10 q16 q166) ⟨rfl, rfl⟩ (by decide +kernel) ⟨Nat.le_trans (by decide) hRf, Nat.le_trans (by decide) hRl⟩ hK hP 0 1 rfl rfl rfl rfl rfl hl (Nat.le_of_ble_eq_true rfl) hcs dX1_takePieces_58 (fun r58 h58 => ?_)
        subst h58
        have hr58 := zRun_256 F q
        refine lv_iload hx hb dX1_takePieces_61 (lv_at hl 4 rfl) ?_
        refine zr_icmp_ne (tgt := 70) hx hb dX1_takePieces_63 (by decide) (by omega) (fun c63 => ?_) (fun c63 => ?_)
        · refine zr_iinc hx hb (((q : Nat) : Int) - ((1 : Nat) : Int)) (lv' := [(6, .int (zI (((q : Nat) : Int) - ((1 : Nat) : Int)))), (0, .ref g0), (1, .int (zI ((x : Nat) : Int))), (2, .int (zI ((g : Nat) : Int))), (3, .int (zI ((k : Nat) : Int))), (4, .int (zI ((mo : Nat) : Int))), (5, .int (zI pl))]) dX1_takePieces_70 hl (k := 6) rfl (by omega) (by decide) rfl (fun ls hl => ?_)
          refine lv_goto (tgt := 41) hx hb dX1_takePieces_73 (by decide) ?_
          exact ih q pl ls (by omega) (by omega) (zIL_skip h2 (fun _ => by omega)) (lv_sub hl [1, 2, 3, 4, 5, 6, 0] rfl)
        · refine lv_iload hx hb dX1_takePieces_66 (lv_at hl 6 rfl) ?_
          refine lv_istore (lv' := [(5, .int (zI ((q : Nat) : Int))), (0, .ref g0), (1, .int (zI ((x : Nat) : Int))), (2, .int (zI ((g : Nat) : Int))), (3, .int (zI ((k : Nat) : Int))), (4, .int (zI ((mo : Nat) : Int))), (6, .int (zI ((q : Nat) : Int)))]) hx hb dX1_takePieces_68 hl (by decide) rfl (fun ls hl => ?_)
          refine zr_iinc hx hb (((q : Nat) : Int) - ((1 : Nat) : Int)) (lv' := [(6, .int (zI (((q : Nat) : Int) - ((1 : Nat) : Int)))), (5, .int (zI ((q : Nat) : Int))), (0, .ref g0), (1, .int (zI ((x : Nat) : Int))), (2, .int (zI ((g : Nat) : Int))), (3, .int (zI ((k : Nat) : Int))), (4, .int (zI ((mo : Nat) : Int)))]) dX1_takePieces_70 hl (k := 6) rfl (by omega) (by decide) rfl (fun ls hl => ?_)
          refine lv_goto (tgt := 41) hx hb dX1_takePieces_73 (by decide) ?_
          exact ih q ((q : Nat) : Int) ls (by omega) (by omega) (zIL_new h49 (by omega)) (lv_sub hl [2, 3, 4, 5, 6, 1, 0] rfl)
      · subst er49
        refine zr_if_eq (tgt := 70) hx hb dX1_takePieces_52 (by decide) (by omega) (fun c52 => ?_) (fun c52 => by exfalso; omega)
        refine zr_iinc hx hb (((q : Nat) : Int) - ((1 : Nat) : Int)) (lv' := [(6, .int (zI (((q : Nat) : Int) - ((1 : Nat) : Int)))), (0, .ref g0), (1, .int (zI ((x : Nat) : Int))), (2, .int (zI ((g : Nat) : Int))), (3, .int (zI ((k : Nat) : Int))), (4, .int (zI ((mo : Nat) : Int))), (5, .int (zI pl))]) dX1_takePieces_70 hl (k := 6) rfl (by omega) (by decide) rfl (fun ls hl => ?_)
        refine lv_goto (tgt := 41) hx hb dX1_takePieces_73 (by decide) ?_
        exact ih q pl ls (by omega) (by omega) (zIL_skip h2 (fun hz => absurd hz h49)) (lv_sub hl [1, 2, 3, 4, 5, 6, 0] rfl)
set_option maxHeartbeats 4000000 in
set_option maxRecDepth 100000 in
theorem lpX1_piecesO {p : Program} {l : Launch} {e : Env} {R : Room} {s : State} {m : MethodId} {args : Array Value} {below : List Frame} {meth : Method} {c : Code} {cells slots : Nat} {Q : State → Prop} {G : va_G} {H0 : Heap} {A : Nat → Prop} {g0 b1 : Nat} {dB : ClassId} {Fz : Nat → Bool} {x : Nat} (hx : p.tables.exec = Jvm.exec) (hb : c.code = cX1_takePieces) (hown : s.vm.findClass RX1 = some m.cls) (hts : ∀ w ∈ lw_all, w.before args s = true) (hK : va_K G vwCl [(dB, .boolean)] s) (hml : c.maxLocals = 7) (hRf : 2 ≤ R.frames) (hRl : 46 ≤ R.locals) (hcs : cells ≤ R.cells ∧ slots ≤ R.slots) (hA : ∀ q, H0.size ≤ q → A q) (hx9 : x ≤ 256)
    (kx : ∀ (g : Nat) (F : Nat → Bool) (H : Heap) (locs : List Loc) (ls : Array Slot), zPS 256 Fz x 0 g F → va_P G vwCl (wM g0 b1 dB F) H → va_D A (wM g0 b1 dB F) → va_S A H0 H locs → lv_has ls 7 [(0, .ref g0), (1, .int (zI ((x : Nat) : Int))), (2, .int (zI ((g : Nat) : Int)))] → W p l e R s m args below meth c H locs cells slots Q (F0 m 119 ls [])) :
    ∀ (d n k g : Nat) (F : Nat → Bool) (H : Heap) (locs : List Loc) (ls : Array Slot), n < d → k + n = 256 → g ≤ 256 → zOk F → (∀ r F9, zPS n F x g r F9 → zPS 256 Fz x 0 r F9) → va_P G vwCl (wM g0 b1 dB F) H → va_D A (wM g0 b1 dB F) → va_S A H0 H locs → lv_has ls 7 [(0, .ref g0), (1, .int (zI ((x : Nat) : Int))), (2, .int (zI ((g : Nat) : Int))), (3, .int (zI ((k : Nat) : Int)))] → W p l e R s m args below meth c H locs cells slots Q (F0 m 15 ls []) := by
  intro d
  induction d with
  | zero => intro n k g F H locs ls h; exact absurd h (Nat.not_lt_zero _)
  | succ d ih =>
    intro n k g F H locs ls hd h1 h2 hF hcont hP hD hS hl
    refine lv_iload_n hx hb dX1_takePieces_15 rfl (lv_at hl 3 rfl) ?_
    refine zr_sipush ((256 : Nat) : Int) hx hb dX1_takePieces_16 (by decide) ?_
    refine zr_icmp_ge (tgt := 119) hx hb dX1_takePieces_19 (by decide) (by omega) (fun c19 => ?_) (fun c19 => ?_)
    · exact kx g F H locs ls (hcont _ _ (by have e9 : n = 0 := (by omega); subst e9; exact ⟨rfl, rfl⟩)) hP hD hS (lv_sub hl [0, 1, 2] rfl)
    · refine lv_iload_n hx hb dX1_takePieces_22 rfl (lv_at hl 2 rfl) ?_
      refine lv_iload_n hx hb dX1_takePieces_23 rfl (lv_at hl 1 rfl) ?_
      refine zr_icmp_ge (tgt := 119) hx hb dX1_takePieces_24 (by decide) (by omega) (fun c24 => ?_) (fun c24 => ?_)
      · exact kx g F H locs ls (hcont _ _ (zPS_end (Or.inl (by omega)) n)) hP hD hS (lv_sub hl [0, 1, 2] rfl)
      · obtain ⟨n, rfl⟩ : ∃ y, n = y + 1 := ⟨n - 1, by omega⟩
        refine lv_aload_n hx hb dX1_takePieces_27 rfl (lv_at hl 0 rfl) ?_
        refine zc_ro (n := 0) (As := []) (rest := []) ⟨hx, hb, hml, hown, hts⟩ (metX1_largest l G hF) (lw_V q207 q208 q209 q16 q210) ⟨rfl, rfl⟩ (by decide +kernel) ⟨Nat.le_trans (by decide) hRf, Nat.le_trans (by decide) hRl⟩ hK hP 0 1 rfl rfl rfl rfl rfl hl (Nat.le_of_ble_eq_true rfl) hcs dX1_takePieces_28 (fun r28 h28 => ?_)
        obtain ⟨mo, rfl, hm1, hm2⟩ := h28
        refine lv_istore (lv' := [(4, .int (zI ((mo : Nat) : Int))), (0, .ref g0), (1, .int (zI ((x : Nat) : Int))), (2, .int (zI ((g : Nat) : Int))), (3, .int (zI ((k : Nat) : Int)))]) hx hb dX1_takePieces_31 hl (by decide) rfl (fun ls hl => ?_)
        refine zr_iconst hx hb dX1_takePieces_33 ?_
        refine lv_istore (lv' := [(5, .int (zI (-1))), (4, .int (zI ((mo : Nat) : Int))), (0, .ref g0), (1, .int (zI ((x : Nat) : Int))), (2, .int (zI ((g : Nat) : Int))), (3, .int (zI ((k : Nat) : Int)))]) hx hb dX1_takePieces_34 hl (by decide) rfl (fun ls hl => ?_)
        refine zr_sipush ((255 : Nat) : Int) hx hb dX1_takePieces_36 (by decide) ?_
        refine lv_istore (lv' := [(6, .int (zI ((255 : Nat) : Int))), (5, .int (zI (-1))), (4, .int (zI ((mo : Nat) : Int))), (0, .ref g0), (1, .int (zI ((x : Nat) : Int))), (2, .int (zI ((g : Nat) : Int))), (3, .int (zI ((k : Nat) : Int)))]) hx hb dX1_takePieces_39 hl (by decide) rfl (fun ls hl => ?_)
        have e9 : ((255 : Nat) : Int) = (((256 : Nat) : Int) - ((1 : Nat) : Int)) := by omega
        rw [e9] at hl
        refine lpX1_piecesI hx hb hown hts hK hml hRf hRl hcs hP hF hm1 (fun pl ls hil hl => ?_) 257 256 (-1) ls (by omega) (by omega) (zIL_0 hF) (lv_sub hl [3, 4, 5, 6, 2, 1, 0] rfl)
        have hrg := zIL_rng hF hil
        refine lv_iload hx hb dX1_takePieces_76 (lv_at hl 5 rfl) ?_
        refine zr_if_lt (tgt := 113) hx hb dX1_takePieces_78 (by decide) (by omega) (fun c78 => ?_) (fun c78 => ?_)
        · refine zr_iinc hx hb ((k + 1 : Nat) : Int) (lv' := [(3, .int (zI ((k + 1 : Nat) : Int))), (0, .ref g0), (1, .int (zI ((x : Nat) : Int))), (2, .int (zI ((g : Nat) : Int))), (4, .int (zI ((mo : Nat) : Int))), (5, .int (zI pl))]) dX1_takePieces_113 hl (k := 3) rfl (by omega) (by decide) rfl (fun ls hl => ?_)
          refine lv_goto (tgt := 15) hx hb dX1_takePieces_116 (by decide) ?_
          exact ih n (k + 1) g F H locs ls (by omega) (by omega) (by omega) hF (fun r F9 hz => hcont r F9 (zPS_spin (zIL_neg hF hil c78 hm2) hz)) hP hD hS (lv_sub hl [1, 2, 3, 0] rfl)
        · obtain ⟨b9, rfl, y1, y2, y3, y4⟩ := zIL_pos hF hil c78 hm2
          have hle := zRun_le (F := F) (b := b9) (by omega)
          refine lv_iload hx hb dX1_takePieces_81 (lv_at hl 4 rfl) ?_
          refine lv_iload_n hx hb dX1_takePieces_83 rfl (lv_at hl 1 rfl) ?_
          refine lv_iload_n hx hb dX1_takePieces_84 rfl (lv_at hl 2 rfl) ?_
          refine zr_isub hx hb dX1_takePieces_85 ?_
          refine zr_icmp_ge (tgt := 94) hx hb dX1_takePieces_86 (by decide) (by omega) (fun c86 => ?_) (fun c86 => ?_)
          · refine lv_iload_n hx hb dX1_takePieces_94 rfl (lv_at hl 1 rfl) ?_
            refine lv_iload_n hx hb dX1_takePieces_95 rfl (lv_at hl 2 rfl) ?_
            refine zr_isubN hx hb (by omega) dX1_takePieces_96 ?_
            refine lv_istore (lv' := [(6, .int (zI ((x - g : Nat) : Int))), (0, .ref g0), (1, .int (zI ((x : Nat) : Int))), (2, .int (zI ((g : Nat) : Int))), (3, .int (zI ((k : Nat) : Int))), (4, .int (zI ((mo : Nat) : Int))), (5, .int (zI ((b9 : Nat) : Int)))]) hx hb dX1_takePieces_97 hl (by decide) rfl (fun ls hl => ?_)
            refine lv_aload_n hx hb dX1_takePieces_99 rfl (lv_at hl 1 rfl) ?_
            refine lv_iload hx hb dX1_takePieces_100 (lv_at hl 6 rfl) ?_
            refine lv_iload hx hb dX1_takePieces_102 (lv_at hl 0 rfl) ?_
            refine zr_iconstN 1 hx hb dX1_takePieces_104 rfl ?_
            refine zc_muv (n := 3) (As := [.int (zI ((b9 : Nat) : Int)), .int (zI ((x - g : Nat) : Int)), .int (zI ((1 : Nat) : Int))]) (rest := []) ⟨hx, hb, hml, hown, hts⟩ (metX1_mark l G H.size (f := b9) (mm := x - g) (v := false) (by omega)) (lw_V q167 q169 qs11 q16 q170) ⟨rfl, rfl⟩ (by decide +kernel) ⟨Nat.le_trans (by decide) hRf, Nat.le_trans (by decide) hRl⟩ hK hP hD hS hA 0 1 rfl rfl rfl rfl rfl hl (Nat.le_of_ble_eq_true rfl) hcs dX1_takePieces_105 (fun u105 H locs h105 hP hD hS => ?_)
            subst h105
            have hP : va_P G vwCl (wM g0 b1 dB (zM F b9 (x - g) false)) H := hP
            have hD : va_D A (wM g0 b1 dB (zM F b9 (x - g) false)) := hD
            refine lv_iload_n hx hb dX1_takePieces_108 rfl (lv_at hl 3 rfl) ?_
            refine lv_iload hx hb dX1_takePieces_109 (lv_at hl 0 rfl) ?_
            refine zr_iaddN hx hb dX1_takePieces_111 ?_
            refine lv_istore_n (lv' := [(2, .int (zI ((g + (x - g) : Nat) : Int))), (6, .int (zI ((x - g : Nat) : Int))), (0, .ref g0), (1, .int (zI ((x : Nat) : Int))), (3, .int (zI ((k : Nat) : Int))), (4, .int (zI ((mo : Nat) : Int))), (5, .int (zI ((b9 : Nat) : Int)))]) hx hb dX1_takePieces_112 rfl hl (by decide) rfl (fun ls hl => ?_)
            refine zr_iinc hx hb ((k + 1 : Nat) : Int) (lv' := [(3, .int (zI ((k + 1 : Nat) : Int))), (2, .int (zI ((g + (x - g) : Nat) : Int))), (6, .int (zI ((x - g : Nat) : Int))), (0, .ref g0), (1, .int (zI ((x : Nat) : Int))), (4, .int (zI ((mo : Nat) : Int))), (5, .int (zI ((b9 : Nat) : Int)))]) dX1_takePieces_113 hl (k := 4) rfl (by omega) (by decide) rfl (fun ls hl => ?_)
            refine lv_goto (tgt := 15) hx hb dX1_takePieces_116 (by decide) ?_
            have em : min (zRun F b9) (x - g) = x - g := by omega
            exact ih n (k + 1) (g + (x - g)) _ H locs ls (by omega) (by omega) (by omega) (zM_ok hF (by omega)) (fun r F9 hz => hcont r F9 (Or.inr ⟨by omega, b9, y3, by rw [em]; exact hz⟩)) hP hD hS (lv_sub hl [3, 4, 1, 0] rfl)
          · refine lv_iload hx hb dX1_takePieces_89 (lv_at hl 4 rfl) ?_
            refine lv_goto (tgt := 97) hx hb dX1_takePieces_91 (by decide) ?_
            refine lv_istore (lv' := [(6, .int (zI ((mo : Nat) : Int))), (0, .ref g0), (1, .int (zI ((x : Nat) : Int))), (2, .int (zI ((g : Nat) : Int))), (3, .int (zI ((k : Nat) : Int))), (4, .int (zI ((mo : Nat) : Int))), (5, .int (zI ((b9 : Nat) : Int)))]) hx hb dX1_takePieces_97 hl (by decide) rfl (fun ls hl => ?_)
            refine lv_aload_n hx hb dX1_takePieces_99 rfl (lv_at hl 1 rfl) ?_
            refine lv_iload hx hb dX1_takePieces_100 (lv_at hl 6 rfl) ?_
            refine lv_iload hx hb dX1_takePieces_102 (lv_at hl 0 rfl) ?_
            refine zr_iconstN 1 hx hb dX1_takePieces_104 rfl ?_
            refine zc_muv (n := 3) (As := [.int (zI ((b9 : Nat) : Int)), .int (zI ((mo : Nat) : Int)), .int (zI ((1 : Nat) : Int))]) (rest := []) ⟨hx, hb, hml, hown, hts⟩ (metX1_mark l G H.size (f := b9) (mm := mo) (v := false) (by omega)) (lw_V q167 q169 qs11 q16 q170) ⟨rfl, rfl⟩ (by decide +kernel) ⟨Nat.le_trans (by decide) hRf, Nat.le_trans (by decide) hRl⟩ hK hP hD hS hA 0 1 rfl rfl rfl rfl rfl hl (Nat.le_of_ble_eq_true rfl) hcs dX1_takePieces_105 (fun u105 H locs h105 hP hD hS => ?_)
            subst h105
            have hP : va_P G vwCl (wM g0 b1 dB (zM F b9 mo false)) H := hP
            have hD : va_D A (wM g0 b1 dB (zM F b9 mo false)) := hD
            refine lv_iload_n hx hb dX1_takePieces_108 rfl (lv_at hl 3 rfl) ?_
            refine lv_iload hx hb dX1_takePieces_109 (lv_at hl 0 rfl) ?_
            refine zr_iaddN hx hb dX1_takePieces_111 ?_
            refine lv_istore_n (lv' := [(2, .int (zI ((g + mo : Nat) : Int))), (6, .int (zI ((mo : Nat) : Int))), (0, .ref g0), (1, .int (zI ((x : Nat) : Int))), (3, .int (zI ((k : Nat) : Int))), (4, .int (zI ((mo : Nat) : Int))), (5, .int (zI ((b9 : Nat) : Int)))]) hx hb dX1_takePieces_112 rfl hl (by decide) rfl (fun ls hl => ?_)
            refine zr_iinc hx hb ((k + 1 : Nat) : Int) (lv' := [(3, .int (zI ((k + 1 : Nat) : Int))), (2, .int (zI ((g + mo : Nat) : Int))), (6, .int (zI ((mo : Nat) : Int))), (0, .ref g0), (1, .int (zI ((x : Nat) : Int))), (4, .int (zI ((mo : Nat) : Int))), (5, .int (zI ((b9 : Nat) : Int)))]) dX1_takePieces_113 hl (k := 4) rfl (by omega) (by decide) rfl (fun ls hl => ?_)
            refine lv_goto (tgt := 15) hx hb dX1_takePieces_116 (by decide) ?_
            have em : min (zRun F b9) (x - g) = mo := by omega
            exact ih n (k + 1) (g + mo) _ H locs ls (by omega) (by omega) (by omega) (zM_ok hF (by omega)) (fun r F9 hz => hcont r F9 (Or.inr ⟨by omega, b9, y3, by rw [em]; exact hz⟩)) hP hD hS (lv_sub hl [3, 4, 1, 0] rfl)
set_option maxHeartbeats 4000000 in
set_option maxRecDepth 100000 in
theorem metX1_takePieces (l : Launch) (G : va_G) (sz : Nat) {g0 b1 : Nat} {dB : ClassId} {F : Nat → Bool} (hF : zOk F) {b : Int} (hb0 : zIn b) : zMU l yX1_takePieces cX1_takePieces 7 (some .int) ({ frames := 2, cells := 0, slots := 0, locals := 46 } : Room) G (wM g0 b1 dB F) [(dB, .boolean)] [.ref g0, .int (zI b)] sz (zQi G [(dB, .boolean)] (wM g0 b1 dB) (fun r F9 => ∃ q : Int, r = zI q ∧ zsPieces F b q F9)) 0 0 := by
  refine zmu_enter (by decide) (Nat.le_of_ble_eq_true rfl) ?_
  intro p e s m below meth c A H locs hx hb hr hml hown hlocks hnm hts hA hP hK hD hS ls hl
  have hown : s.vm.findClass RX1 = some m.cls := hown
  have hl : lv_has ls 7 [(0, .ref g0), (1, .int (zI b))] := hl
  refine lv_aload_n hx hb dX1_takePieces_0 rfl (lv_at hl 0 rfl) ?_
  refine lv_iload_n hx hb dX1_takePieces_1 rfl (lv_at hl 1 rfl) ?_
  refine zc_ro (n := 1) (As := [.int (zI b)]) (rest := []) ⟨hx, hb, hml, hown, hts⟩ (metX1_badSize l G hb0) (lw_V q151 q153 qs7 q16 q154) ⟨rfl, rfl⟩ (by decide +kernel) ⟨Nat.le_of_ble_eq_true rfl, Nat.le_of_ble_eq_true rfl⟩ hK hP 0 1 rfl rfl rfl rfl rfl hl (Nat.le_of_ble_eq_true rfl) ⟨Nat.zero_le _, Nat.zero_le _⟩ dX1_takePieces_2 (fun r2 h2 => ?_)
  rcases h2 with ⟨er2, h2⟩ | ⟨er2, h2⟩
  · subst er2
    refine zr_if_eq (tgt := 11) hx hb dX1_takePieces_5 (by decide) (by omega) (fun c5 => by exfalso; omega) (fun c5 => ?_)
    refine zr_bipush (-2) hx hb dX1_takePieces_8 (by decide) ?_
    exact zret_mui (v := zI (-2)) hx hb hr hlocks dX1_takePieces_10 F hP hK hD hS ⟨-2, rfl, Or.inl ⟨h2, rfl, rfl⟩⟩
  · subst er2
    refine zr_if_eq (tgt := 11) hx hb dX1_takePieces_5 (by decide) (by omega) (fun c5 => ?_) (fun c5 => by exfalso; omega)
    obtain ⟨x, rfl⟩ := Int.eq_ofNat_of_zero_le (show 0 ≤ b by omega)
    refine zr_iconstN 0 hx hb dX1_takePieces_11 rfl ?_
    refine lv_istore_n (lv' := [(2, .int (zI ((0 : Nat) : Int))), (0, .ref g0), (1, .int (zI ((x : Nat) : Int)))]) hx hb dX1_takePieces_12 rfl hl (by decide) rfl (fun ls hl => ?_)
    refine zr_iconstN 0 hx hb dX1_takePieces_13 rfl ?_
    refine lv_istore_n (lv' := [(3, .int (zI ((0 : Nat) : Int))), (2, .int (zI ((0 : Nat) : Int))), (0, .ref g0), (1, .int (zI ((x : Nat) : Int)))]) hx hb dX1_takePieces_14 rfl hl (by decide) rfl (fun ls hl => ?_)
    refine lpX1_piecesO hx hb hown hts hK hml (Nat.le_of_ble_eq_true rfl) (Nat.le_of_ble_eq_true rfl) ⟨Nat.zero_le _, Nat.zero_le _⟩ hA (by omega) (fun g F8 H locs ls hz hP hD hS hl => ?_) 257 256 0 0 F H locs ls (by omega) (by omega) (by omega) hF (fun r F9 hz => hz) hP hD hS (lv_sub hl [2, 3, 1, 0] rfl)
    refine lv_iload_n hx hb dX1_takePieces_119 rfl (lv_at hl 2 rfl) ?_
    exact zret_mui (v := zI ((g : Nat) : Int)) hx hb hr hlocks dX1_takePieces_120 F8 hP hK hD hS ⟨_, rfl, Or.inr ⟨x, g, rfl, by omega, by omega, rfl, hz⟩⟩
set_option maxHeartbeats 4000000 in
set_option maxRecDepth 100000 in
theorem metX1_clear (l : Launch) (G : va_G) (sz : Nat) {g0 b1 : Nat} {dB : ClassId} {F : Nat → Bool} : zMU l yX1_clear cX1_clear 1 (none) ({ frames := 1, cells := 0, slots := 0, locals := 24 } : Room) G (wM g0 b1 dB F) [(dB, .boolean)] [.ref g0] sz (zQv G [(dB, .boolean)] (wM g0 b1 dB) (fun F9 => F9 = zM F 0 256 true)) 0 0 := by
  refine zmu_enter (by decide) (Nat.le_of_ble_eq_true rfl) ?_
  intro p e s m below meth c A H locs hx hb hr hml hown hlocks hnm hts hA hP hK hD hS ls hl
  have hown : s.vm.findClass RX1 = some m.cls := hown
  have hl : lv_has ls 1 [(0, .ref g0)] := hl
  refine lv_aload_n hx hb dX1_clear_0 rfl (lv_at hl 0 rfl) ?_
  refine zr_iconstN 0 hx hb dX1_clear_1 rfl ?_
  refine zr_sipush ((256 : Nat) : Int) hx hb dX1_clear_2 (by decide) ?_
  refine zr_iconstN 0 hx hb dX1_clear_5 rfl ?_
  refine zc_muv (n := 3) (As := [.int (zI ((0 : Nat) : Int)), .int (zI ((256 : Nat) : Int)), .int (zI ((0 : Nat) : Int))]) (rest := []) ⟨hx, hb, hml, hown, hts⟩ (metX1_mark l G H.size (f := 0) (mm := 256) (v := true) (by omega)) (lw_V q167 q169 qs11 q16 q170) ⟨rfl, rfl⟩ (by decide +kernel) ⟨Nat.le_of_ble_eq_true rfl, Nat.le_of_ble_eq_true rfl⟩ hK hP hD hS hA 0 1 rfl rfl rfl rfl rfl hl (Nat.le_of_ble_eq_true rfl) ⟨Nat.zero_le _, Nat.zero_le _⟩ dX1_clear_6 (fun u6 H locs h6 hP hD hS => ?_)
  subst h6
  have hP : va_P G vwCl (wM g0 b1 dB (zM F 0 256 true)) H := hP
  have hD : va_D A (wM g0 b1 dB (zM F 0 256 true)) := hD
  exact zret_muv hx hb hr hlocks dX1_clear_9 (zM F 0 256 true) hP hK hD hS rfl
end
section
/-! calls from a wider world; the script; constructors -/
theorem zIn_of (x : Int32) : zIn x.toInt := ⟨by have := Int32.le_toInt x; omega, by have := Int32.toInt_lt x; omega⟩
/-- the cells of both -/
abbrev w6 (h0 a1 a2 a3 : Nat) (dA : ClassId) (g0 b1 : Nat) (dB : ClassId) (c : Nat) (p s k : Nat → Nat) (t : Nat) (F : Nat → Bool) : va_W := [(h0, .inr (0, [.int (zI (c : Int)), .ref a1, .ref a2, .ref a3, .int (zI (t : Int))])), (a1, .inl (dA, 130, .inl (zA p))), (a2, .inl (dA, 130, .inl (zA s))), (a3, .inl (dA, 130, .inl (zA k))), (g0, .inr (1, [.ref b1])), (b1, .inl (dB, 256, .inl (zT F)))]
section ZL
variable {p : Program} {l : Launch} {e : Env} {R : Room} {s : State} {m : MethodId} {args : Array Value} {below : List Frame} {meth : Method} {c : Code} {H : Heap} {locs : List Loc} {cells slots : Nat} {Q : State → Prop}
variable {cc : ByteArray} {pc : Nat} {ls : Array Slot} {rest st0 As : List Value} {G : va_G} {A : Nat → Prop} {a : Nat} {tys : List (ClassId × FieldType)} {ws wc wr : va_W} {H0 : Heap}
variable {y : MethodName} {b : ByteArray} {L nL n index q0 ci : Nat} {r0 : Option FieldType} {rm : Room} {own C : String} {q : vw_C} {fs : List Value}
theorem zr_sld (hexec : p.tables.exec = Jvm.exec) (hb : c.code = cc) {b L : Nat} {xs : Nat → Int32} (hX : va_X b L xs s H0) (hbl : b < H0.size) (hbA : ¬ A b) (hS : va_S A H0 H locs) {x : Int} (j : Nat) (hxj : x = (j : Int)) (hj : j < L) (hL : L < 2147483648) (hdg : decode cc pc = .ok (.iaload, 1))
    (kk : W p l e R s m args below meth c H locs cells slots Q (F0 m (pc + 1) ls (.int (zI (xs j).toInt) :: rest))) : W p l e R s m args below meth c H locs cells slots Q (F0 m pc ls (.int (zI x) :: .ref b :: rest)) := by
  subst hxj
  refine va_sld hexec hb hX hbl hbA hS (zI_in hj hL) hdg ?_
  rw [zI_clamp (by omega), ← zI_of (xs j)]
  exact kk
theorem zc_muiJ {S : Type} {w : S → va_W} {post : Int32 → S → Prop} (F : CallFix p m c cc nL s args lw_all own) (hM : zMU l y b L r0 rm G wc tys (.ref a :: As) H.size (zQi G tys w post) 0 0) (hw : GoodIn lw_all (wsV own index C y (ws_ y b L r0))) (hrm : rm.cells = 0 ∧ rm.slots = 0)
    (hd : y.cls = C ∧ y.cls ≠ "java/lang/invoke/MethodHandle" ∧ y.cls ≠ "java/lang/invoke/VarHandle" ∧ (parseMethodDescriptor y.desc).map (fun d => d.parameters.length) = some n) (hR : rm.frames + 1 ≤ R.frames ∧ 8 + (L + 11) + rm.locals ≤ R.locals) (hK : va_K G vwCl tys s) (hP : va_P G vwCl ws H) (hD : va_D A ws) (hS : va_S A H0 H locs) (hA : ∀ q, H0.size ≤ q → A q) (hPc : va_P G vwCl wc H) (hDc : va_D A wc)
    (isC isR : List Nat) (hC : isC.map (fun i => ws[i]?) = wc.map some) (hRr : isR.map (fun i => ws[i]?) = wr.map some) (hnd : va_nd isR = true) (hdis : ∀ i ∈ isR, i ∉ isC) (q0 ci : Nat) (hc : vwCl[ci]? = some q) (hq : q.1 = C) (he : wc[q0]? = some (a, .inr (ci, fs)))
    (hst : st0 = As.reverse ++ .ref a :: rest) (hn : As.length = n) {lv : List (Nat × Value)} (hsize : lv_has ls nL lv) (hroom : (rest.map fun v => v.category).sum ≤ 8) (hf : cells ≤ R.cells ∧ slots ≤ R.slots) (hdg : decode cc pc = .ok (.invokevirtual index, 3))
    (kk : ∀ (r : Int32) (u : S) (H1 : Heap) (locs1 : List Loc), post r u → va_P G vwCl (wr ++ w u) H1 → va_D A (wr ++ w u) → va_S A H0 H1 locs1 → W p l e R s m args below meth c H1 locs1 cells slots Q (F0 m (pc + 3) ls (.int r :: rest))) : W p l e R s m args below meth c H locs cells slots Q (F0 m pc ls st0) := by
  subst hst
  subst hq
  have hFc := z_free hDc hS hA
  refine va_calli (va_runV (As := As) (rest := rest) F hM (cwV n F.2.2.2.2 hw rfl hrm.1 hrm.2 hd hR) ⟨fun a U g mk q => ⟨q.1, q.2.1, q.2.2.1, va_K.moved (u := U) (U := U.calling g mk a) (Vm.Alike.refl U.vm) q.2.2.2.1, q.2.2.2.2⟩, va_recv hK hPc hc he, fun U hU hW => ⟨rfl, by rw [hU], by rw [hU]; exact hPc, va_K.moved hW.alike hK, hDc.weaken (fun _ _ _ _ => trivial)⟩⟩ rfl hn hsize.1 rfl (lv_room hroom) hdg hf) hS (fun q _ h => hFc q h) hFc (fun r u t H1 locs1 ht hvm hw1 hB hz1 hk1 hS1 => ?_)
  obtain ⟨hP1, hK1, hD1⟩ := hB
  rw [ht] at hP1
  obtain ⟨hP2, hD2⟩ := va_join (wr := wr) (w1 := w u) hP hD isC isR hC hRr hnd hdis hk1 hFc hP1 hD1
  exact kk r u H1 locs1 hw1 hP2 hD2 hS1
theorem zc_muvJ {S : Type} {w : S → va_W} {post : S → Prop} (F : CallFix p m c cc nL s args lw_all own) (hM : zMU l y b L r0 rm G wc tys (.ref a :: As) H.size (zQv G tys w post) 0 0) (hw : GoodIn lw_all (wsV own index C y (ws_ y b L r0))) (hrm : rm.cells = 0 ∧ rm.slots = 0)
    (hd : y.cls = C ∧ y.cls ≠ "java/lang/invoke/MethodHandle" ∧ y.cls ≠ "java/lang/invoke/VarHandle" ∧ (parseMethodDescriptor y.desc).map (fun d => d.parameters.length) = some n) (hR : rm.frames + 1 ≤ R.frames ∧ 8 + (L + 11) + rm.locals ≤ R.locals) (hK : va_K G vwCl tys s) (hP : va_P G vwCl ws H) (hD : va_D A ws) (hS : va_S A H0 H locs) (hA : ∀ q, H0.size ≤ q → A q) (hPc : va_P G vwCl wc H) (hDc : va_D A wc)
    (isC isR : List Nat) (hC : isC.map (fun i => ws[i]?) = wc.map some) (hRr : isR.map (fun i => ws[i]?) = wr.map some) (hnd : va_nd isR = true) (hdis : ∀ i ∈ isR, i ∉ isC) (q0 ci : Nat) (hc : vwCl[ci]? = some q) (hq : q.1 = C) (he : wc[q0]? = some (a, .inr (ci, fs)))
    (hst : st0 = As.reverse ++ .ref a :: rest) (hn : As.length = n) {lv : List (Nat × Value)} (hsize : lv_has ls nL lv) (hroom : (rest.map fun v => v.category).sum ≤ 8) (hf : cells ≤ R.cells ∧ slots ≤ R.slots) (hdg : decode cc pc = .ok (.invokevirtual index, 3))
    (kk : ∀ (u : S) (H1 : Heap) (locs1 : List Loc), post u → va_P G vwCl (wr ++ w u) H1 → va_D A (wr ++ w u) → va_S A H0 H1 locs1 → W p l e R s m args below meth c H1 locs1 cells slots Q (F0 m (pc + 3) ls rest)) : W p l e R s m args below meth c H locs cells slots Q (F0 m pc ls st0) := by
  subst hst
  subst hq
  have hFc := z_free hDc hS hA
  refine va_callv (va_runV (As := As) (rest := rest) F hM (cwV n F.2.2.2.2 hw rfl hrm.1 hrm.2 hd hR) ⟨fun a U g mk q => ⟨q.1, q.2.1, q.2.2.1, va_K.moved (u := U) (U := U.calling g mk a) (Vm.Alike.refl U.vm) q.2.2.2.1, q.2.2.2.2⟩, va_recv hK hPc hc he, fun U hU hW => ⟨rfl, by rw [hU], by rw [hU]; exact hPc, va_K.moved hW.alike hK, hDc.weaken (fun _ _ _ _ => trivial)⟩⟩ rfl hn hsize.1 rfl (lv_room hroom) hdg hf) hS (fun q _ h => hFc q h) hFc (fun u t H1 locs1 ht hvm hw1 hB hz1 hk1 hS1 => ?_)
  obtain ⟨hP1, hK1, hD1⟩ := hB
  rw [ht] at hP1
  obtain ⟨hP2, hD2⟩ := va_join (wr := wr) (w1 := w u) hP hD isC isR hC hRr hnd hdis hk1 hFc hP1 hD1
  exact kk u H1 locs1 hw1 hP2 hD2 hS1
end ZL
theorem z_arr {cA : ClassId} {N : Nat} {f g : Nat → Value} (h : ∀ j, j < N → f j = g j) : arrV cA N f = arrV cA N g := by
  unfold arrV
  congr 2
  funext j
  exact h j.val j.isLt
/-- all blocks are free -/
abbrev zF0 : Nat → Bool := zM (fun _ => false) 0 256 true
abbrev zW0 (h0 : Nat) : va_W := [(h0, .inr (0, [.int (zI ((0 : Nat) : Int)), .null, .null, .null, .int (zI ((0 : Nat) : Int))]))]
abbrev zV0 (g0 : Nat) : va_W := [(g0, .inr (1, [.null]))]
abbrev zUX : Type := Nat × Nat × Nat × ClassId × zSt
abbrev zQX (G : va_G) (h0 : Nat) (A : Nat → Prop) : Array Value → State → Outcome → State → Prop := va_Qv (fun u : zUX => zIv zF0 u.2.2.2.2) (fun u t => va_P G vwCl (wXu h0 u.1 u.2.1 u.2.2.1 u.2.2.2.1 u.2.2.2.2) t.heap ∧ va_K G vwCl [(u.2.2.2.1, .int)] t ∧ va_D A (wXu h0 u.1 u.2.1 u.2.2.1 u.2.2.2.1 u.2.2.2.2)) A
abbrev zQM (G : va_G) (g0 : Nat) (A : Nat → Prop) : Array Value → State → Outcome → State → Prop := va_Qv (fun _ : Nat × ClassId => True) (fun u t => va_P G vwCl (wM g0 u.1 u.2 zF0) t.heap ∧ va_K G vwCl [(u.2, .boolean)] t ∧ va_D A (wM g0 u.1 u.2 zF0)) A
set_option maxHeartbeats 4000000 in
set_option maxRecDepth 100000 in
theorem metX1_init (l : Launch) (G : va_G) (sz : Nat) {g0 : Nat} : zMU l yX1_init cX1_init 1 none ({ frames := 1, cells := 1, slots := 256, locals := 12 } : Room) G (zV0 g0) [] [.ref g0] sz (zQM G g0) 1 256 := by
  refine zmu_enter (by decide) (Nat.le_of_ble_eq_true rfl) ?_
  intro p e s m below meth c A H locs hx hb hr hml hown hlocks hnm hts hA hP hK hD hS ls hl
  have hown : s.vm.findClass RX1 = some m.cls := hown
  have hl : lv_has ls 1 [(0, .ref g0)] := hl
  refine lv_aload_n hx hb dX1_init_0 rfl (lv_at hl 0 rfl) ?_
  refine W.objInit hx hb hown (hts _ q141) (hts _ q23) (hts _ q24) rfl (by rw [hml]; exact hl.1) rfl dX1_init_1 (Nat.le_of_ble_eq_true rfl) (Nat.le_of_ble_eq_true rfl) ?_
  refine W.eq (g2 := F0 m 4 ls []) rfl ?_
  refine lv_aload_n hx hb dX1_init_4 rfl (lv_at hl 0 rfl) ?_
  refine zr_sipush ((256 : Nat) : Int) hx hb dX1_init_5 (by decide) ?_
  refine va_newa (a0 := (256, .inl (zT zF0))) (atype := .boolean) (ty := .boolean) (N' := 256) hx hb (hts _ q146) rfl hK hP hD hS hA (fun cA => by rw [vp_cell_i]; exact z_arr (fun j hj => by unfold zT; rw [if_pos (zM_in (Nat.zero_le _) (by omega))]; rfl)) (by decide) (by decide) (by decide) (Nat.le_of_ble_eq_true rfl) (Nat.le_of_ble_eq_true rfl) dX1_init_8 (fun b1 dB H hK hP hD hS => ?_)
  have hP : va_P G vwCl [(g0, .inr (1, [.null])), (b1, .inl (dB, 256, .inl (zT zF0)))] H := hP
  have hD : va_D A [(g0, .inr (1, [.null])), (b1, .inl (dB, 256, .inl (zT zF0)))] := hD
  refine va_putF (D := G) (ci := 1) (v := .ref b1) (ty := .array .boolean) (C := RX1) (T := TX1) (N := 1) hx hb hts in_X1 tyX1 tyX1_ok nmX1 hown hK hP hD hS 0 rfl rfl 0 (by decide) (hts _ q142) (fun _ h9 => h9) rfl hnm rfl (by decide +kernel) rfl rfl (Nat.le_of_ble_eq_true rfl) dX1_init_10 (fun H locs hP hD hS => ?_)
  have hP : va_P G vwCl (wM g0 b1 dB zF0) H := hP
  have hD : va_D A (wM g0 b1 dB zF0) := hD
  have hK : va_K G vwCl [(dB, .boolean)] s := hK
  refine W.widen (k := 1) (n := 256) (Nat.le_of_ble_eq_true rfl) (Nat.le_of_ble_eq_true rfl) ?_
  exact W.vret hx hb hr (fun t ht hW => ⟨⟨(b1, dB), rfl, trivial, by rw [ht]; exact hP, va_K.moved hW.alike hK, hD⟩, hS.F ht⟩) hS.2.2 dX1_init_13 hlocks
set_option maxHeartbeats 4000000 in
set_option maxRecDepth 100000 in
theorem metX0_init (l : Launch) (G : va_G) (sz : Nat) {h0 : Nat} : zMU l yX0_init cX0_init 1 none ({ frames := 3, cells := 3, slots := 390, locals := 69 } : Room) G (zW0 h0) [] [.ref h0] sz (zQX G h0) 3 390 := by
  refine zmu_enter (by decide) (Nat.le_of_ble_eq_true rfl) ?_
  intro p e s m below meth c A H locs hx hb hr hml hown hlocks hnm hts hA hP hK hD hS ls hl
  have hown : s.vm.findClass RX0 = some m.cls := hown
  have hl : lv_has ls 1 [(0, .ref h0)] := hl
  refine lv_aload_n hx hb dX0_init_0 rfl (lv_at hl 0 rfl) ?_
  refine W.objInit hx hb hown (hts _ q22) (hts _ q23) (hts _ q24) rfl (by rw [hml]; exact hl.1) rfl dX0_init_1 (Nat.le_of_ble_eq_true rfl) (Nat.le_of_ble_eq_true rfl) ?_
  refine W.eq (g2 := F0 m 4 ls []) rfl ?_
  refine lv_aload_n hx hb dX0_init_4 rfl (lv_at hl 0 rfl) ?_
  refine zr_sipush ((130 : Nat) : Int) hx hb dX0_init_5 (by decide) ?_
  refine va_newa (a0 := (130, .inl (zA (fun _ => 0)))) (atype := .int) (ty := .int) (N' := 130) hx hb (hts _ q57) rfl hK hP hD hS hA (fun cA => rfl) (by decide) (by decide) (by decide) (Nat.le_of_ble_eq_true rfl) (Nat.le_of_ble_eq_true rfl) dX0_init_8 (fun a1 d1 H hK hP hD hS => ?_)
  have hP : va_P G vwCl [(h0, .inr (0, [.int (zI ((0 : Nat) : Int)), .null, .null, .null, .int (zI ((0 : Nat) : Int))])), (a1, .inl (d1, 130, .inl (zA (fun _ => 0))))] H := hP
  have hD : va_D A [(h0, .inr (0, [.int (zI ((0 : Nat) : Int)), .null, .null, .null, .int (zI ((0 : Nat) : Int))])), (a1, .inl (d1, 130, .inl (zA (fun _ => 0))))] := hD
  refine va_putF (D := G) (ci := 0) (v := .ref a1) (ty := .array .int) (C := RX0) (T := TX0) (N := 5) hx hb hts in_X0 tyX0 tyX0_ok nmX0 hown hK hP hD hS 0 rfl rfl 1 (by decide) (hts _ q42) (fun _ h9 => h9) rfl hnm rfl (by decide +kernel) rfl rfl (Nat.le_of_ble_eq_true rfl) dX0_init_10 (fun H locs hP hD hS => ?_)
  have hP : va_P G vwCl [(h0, .inr (0, [.int (zI ((0 : Nat) : Int)), .ref a1, .null, .null, .int (zI ((0 : Nat) : Int))])), (a1, .inl (d1, 130, .inl (zA (fun _ => 0))))] H := hP
  have hD : va_D A [(h0, .inr (0, [.int (zI ((0 : Nat) : Int)), .ref a1, .null, .null, .int (zI ((0 : Nat) : Int))])), (a1, .inl (d1, 130, .inl (zA (fun _ => 0))))] := hD
  refine lv_aload_n hx hb dX0_init_13 rfl (lv_at hl 0 rfl) ?_
  refine zr_sipush ((130 : Nat) : Int) hx hb dX0_init_14 (by decide) ?_
  refine va_newa (a0 := (130, .inl (zA (fun _ => 0)))) (atype := .int) (ty := .int) (N' := 130) hx hb (hts _ q57) rfl hK hP hD hS hA (fun cA => rfl) (by decide) (by decide) (by decide) (Nat.le_of_ble_eq_true rfl) (Nat.le_of_ble_eq_true rfl) dX0_init_17 (fun a2 d2 H hK hP hD hS => ?_)
  have hP : va_P G vwCl [(h0, .inr (0, [.int (zI ((0 : Nat) : Int)), .ref a1, .null, .null, .int (zI ((0 : Nat) : Int))])), (a1, .inl (d1, 130, .inl (zA (fun _ => 0)))), (a2, .inl (d2, 130, .inl (zA (fun _ => 0))))] H := hP
  have hD : va_D A [(h0, .inr (0, [.int (zI ((0 : Nat) : Int)), .ref a1, .null, .null, .int (zI ((0 : Nat) : Int))])), (a1, .inl (d1, 130, .inl (zA (fun _ => 0)))), (a2, .inl (d2, 130, .inl (zA (fun _ => 0))))] := hD
  refine va_putF (D := G) (ci := 0) (v := .ref a2) (ty := .array .int) (C := RX0) (T := TX0) (N := 5) hx hb hts in_X0 tyX0 tyX0_ok nmX0 hown hK hP hD hS 0 rfl rfl 2 (by decide) (hts _ q43) (fun _ h9 => h9) rfl hnm rfl (by decide +kernel) rfl rfl (Nat.le_of_ble_eq_true rfl) dX0_init_19 (fun H locs hP hD hS => ?_)
  have hP : va_P G vwCl [(h0, .inr (0, [.int (zI ((0 : Nat) : Int)), .ref a1, .ref a2, .null, .int (zI ((0 : Nat) : Int))])), (a1, .inl (d1, 130, .inl (zA (fun _ => 0)))), (a2, .inl (d2, 130, .inl (zA (fun _ => 0))))] H := hP
  have hD : va_D A [(h0, .inr (0, [.int (zI ((0 : Nat) : Int)), .ref a1, .ref a2, .null, .int (zI ((0 : Nat) : Int))])), (a1, .inl (d1, 130, .inl (zA (fun _ => 0)))), (a2, .inl (d2, 130, .inl (zA (fun _ => 0))))] := hD
  refine lv_aload_n hx hb dX0_init_22 rfl (lv_at hl 0 rfl) ?_
  refine zr_sipush ((130 : Nat) : Int) hx hb dX0_init_23 (by decide) ?_
  refine va_newa (a0 := (130, .inl (zA (fun _ => 0)))) (atype := .int) (ty := .int) (N' := 130) hx hb (hts _ q57) rfl hK hP hD hS hA (fun cA => rfl) (by decide) (by decide) (by decide) (Nat.le_of_ble_eq_true rfl) (Nat.le_of_ble_eq_true rfl) dX0_init_26 (fun a3 d3 H hK hP hD hS => ?_)
  have hP : va_P G vwCl [(h0, .inr (0, [.int (zI ((0 : Nat) : Int)), .ref a1, .ref a2, .null, .int (zI ((0 : Nat) : Int))])), (a1, .inl (d1, 130, .inl (zA (fun _ => 0)))), (a2, .inl (d2, 130, .inl (zA (fun _ => 0)))), (a3, .inl (d3, 130, .inl (zA (fun _ => 0))))] H := hP
  have hD : va_D A [(h0, .inr (0, [.int (zI ((0 : Nat) : Int)), .ref a1, .ref a2, .null, .int (zI ((0 : Nat) : Int))])), (a1, .inl (d1, 130, .inl (zA (fun _ => 0)))), (a2, .inl (d2, 130, .inl (zA (fun _ => 0)))), (a3, .inl (d3, 130, .inl (zA (fun _ => 0))))] := hD
  refine va_putF (D := G) (ci := 0) (v := .ref a3) (ty := .array .int) (C := RX0) (T := TX0) (N := 5) hx hb hts in_X0 tyX0 tyX0_ok nmX0 hown hK hP hD hS 0 rfl rfl 3 (by decide) (hts _ q44) (fun _ h9 => h9) rfl hnm rfl (by decide +kernel) rfl rfl (Nat.le_of_ble_eq_true rfl) dX0_init_28 (fun H locs hP hD hS => ?_)
  have hK : va_K G vwCl [(d1, .int), (d2, .int), (d3, .int)] s := hK
  have n1 := va_nm_int (hK.2 0 _ rfl).2
  have n2 := va_nm_int (hK.2 1 _ rfl).2
  have n3 := va_nm_int (hK.2 2 _ rfl).2
  have e2 : d1 = d2 := Option.some.inj (n1.symm.trans n2)
  have e3 : d1 = d3 := Option.some.inj (n1.symm.trans n3)
  subst e2
  subst e3
  have hP : va_P G vwCl (wX h0 a1 a2 a3 d1 0 (fun _ => 0) (fun _ => 0) (fun _ => 0) 0) H := hP
  have hD : va_D A (wX h0 a1 a2 a3 d1 0 (fun _ => 0) (fun _ => 0) (fun _ => 0) 0) := hD
  have hK : va_K G vwCl [(d1, .int)] s := hK.sub [0] rfl
  refine lv_aload_n hx hb dX0_init_31 rfl (lv_at hl 0 rfl) ?_
  refine zc_muv (n := 0) (As := []) (rest := []) ⟨hx, hb, hml, hown, hts⟩ (metX0_clear l G H.size) (lw_V q25 q26 q27 q15 q28) ⟨rfl, rfl⟩ (by decide +kernel) ⟨Nat.le_of_ble_eq_true rfl, Nat.le_of_ble_eq_true rfl⟩ hK hP hD hS hA 0 0 rfl rfl rfl rfl rfl hl (Nat.le_of_ble_eq_true rfl) ⟨Nat.le_of_ble_eq_true rfl, Nat.le_of_ble_eq_true rfl⟩ dX0_init_32 (fun u H locs h32 hP hD hS => ?_)
  refine W.widen (k := 3) (n := 390) (Nat.le_of_ble_eq_true rfl) (Nat.le_of_ble_eq_true rfl) ?_
  exact W.vret hx hb hr (fun t ht hW => ⟨⟨(a1, a2, a3, d1, u), rfl, h32, by rw [ht]; exact hP, va_K.moved hW.alike hK, hD⟩, hS.F ht⟩) hS.2.2 dX0_init_35 hlocks
end
section
/-! THE CLAIM OUT OF ONE WALK OF THE LAW'S BODY. Your part is whole_start (and what it stands on); all else here is the same for every law, but numbers. -/
def R_law : String := "ExtentIndexLaw"
def lw_P (b : Addr) (xs : List Int32) (args : Array Value) (s : State) : Prop := args = #[.ref b] ∧ s.IntsAt b xs ∧ xs.length ≤ 192 ∧ (Jvm.Cond.and given_1 narrow_1).before args s = true
def lw_Q (_ : Array Value) (s : State) (o : Outcome) (t : State) : Prop := o = .returned (some (.int 1)) ∧ Framed s o t [] 600000 7290000
def lw_Z (below : List Frame) (a : Array Value) (s : State) : State → Prop := fun t => ∃ o, t.status = .running ∧ Ended t below o ∧ lw_Q a s o t
/-- the law's own end, with 1 on the stack, nothing written that was there before, its room as the claim has it -/
theorem lw_ret {p : Program} {l : Launch} {e : Env} {s : State} {m : MethodId} {below : List Frame} {meth : Method} {c : Code} {b : Nat} (hx : p.tables.exec = Jvm.exec) (hb : c.code = code) (hr : meth.sig.returnType = ret) (hlocks : meth.locks = false) {pc : Nat} {H : Heap} {ls : Array Slot} (hdg : decode code pc = .ok (.ireturn, 1)) : W p l e room_1 s m #[Value.ref b] below meth c H [] 600000 7290000 (lw_Z below #[Value.ref b] s) (F0 m pc ls [.int 1]) := by
  intro T hT X
  obtain ⟨fs, hret, hrun, hended, hW, hframe⟩ := X.leave (v := some (.int 1)) (hlocks := hlocks) (fun h => by rw [hr] at h; cases h)
  have hmeth' : T.vm.method? m = some meth := X.method'
  refine ⟨T.setFrames fs, ?_, .returned (some (.int 1)), hrun, hended, rfl, ⟨_, rfl⟩, hW, hframe⟩
  jvm_step X.here [X.here.top, hx, hb, hdg, hmeth', hr, ret, narrow_b1]
  (try refine ⟨rfl, ?_⟩); (try refine ⟨rfl, ?_⟩)
  first | (intro acts; rw [hret _ acts rfl rfl rfl]) | rw [hret _ _ rfl rfl rfl]
  exact Steps.refl _
/-- what holds at the law's entry: the machine, the code, the tables' words (any of lw_tbl by 'hts w (by decide +kernel)'), the script of L ints xs at the cell b, what the Statement gives of the start (any of its parts by flat_of_before) -/
def lw_At (p : Program) (s : State) (m : MethodId) (meth : Method) (c : Code) (b L : Nat) (xs : Nat → Int32) : Prop :=
  p.tables.exec = Jvm.exec ∧ c.code = code ∧ meth.sig.returnType = ret ∧ c.maxLocals = 4 ∧ s.vm.findClass R_law = some m.cls ∧ (∀ w ∈ lw_tbl, w.before #[Value.ref b] s = true) ∧ va_X b L xs s s.heap ∧ b < s.heap.size ∧ meth.locks = false ∧ (Jvm.Cond.and given_1 narrow_1).before #[Value.ref b] s = true

set_option maxHeartbeats 4000000 in
set_option maxRecDepth 100000 in
theorem law_c0 {p : Program} {l : Launch} {e : Env} {s : State} {m : MethodId} {below : List Frame} {meth : Method} {c : Code} {cells slots : Nat} {Q : State → Prop} {G : va_G} {h0 a1 a2 a3 : Nat} {dA : ClassId} {g0 b1 : Nat} {dB : ClassId} {b L : Nat} {xs : Nat → Int32} (hx : p.tables.exec = Jvm.exec) (hb : c.code = cL_law) (hml : c.maxLocals = 4) (hown : s.vm.findClass R_law = some m.cls) (hts : ∀ w ∈ lw_all, w.before #[Value.ref b] s = true) (hX : va_X b L xs s s.heap) (hbl : b < s.heap.size) (hL : L ≤ 192) (hcs : cells ≤ 600000 ∧ slots ≤ 7290000) (hK : va_K G vwCl [(dA, .int), (dB, .boolean)] s) {F : Nat → Bool} {cn tn : Nat} {pp ss kk : Nat → Nat} (hI : zInv F cn pp ss kk tn) {i : Nat} (hi : i + 3 ≤ L) {H : Heap} {locs : List Loc} {ls : Array Slot} (hP : va_P G vwCl (w6 h0 a1 a2 a3 dA g0 b1 dB cn pp ss kk tn F) H) (hD : va_D (fun q : Nat => s.heap.size ≤ q) (w6 h0 a1 a2 a3 dA g0 b1 dB cn pp ss kk tn F)) (hS : va_S (fun q : Nat => s.heap.size ≤ q) s.heap H locs) (hl : lv_has ls 4 [(0, .ref b), (1, .ref h0), (2, .ref g0), (3, .int (zI ((i : Nat) : Int)))])
    (kx : ∀ (F : Nat → Bool) (cn : Nat) (pp ss kk : Nat → Nat) (tn : Nat) (H : Heap) (locs : List Loc) (ls : Array Slot), zInv F cn pp ss kk tn → va_P G vwCl (w6 h0 a1 a2 a3 dA g0 b1 dB cn pp ss kk tn F) H → va_D (fun q : Nat => s.heap.size ≤ q) (w6 h0 a1 a2 a3 dA g0 b1 dB cn pp ss kk tn F) → va_S (fun q : Nat => s.heap.size ≤ q) s.heap H locs → lv_has ls 4 [(0, .ref b), (1, .ref h0), (2, .ref g0), (3, .int (zI ((i : Nat) : Int)))] → W p l e room_1 s m #[Value.ref b] below meth c H locs cells slots Q (F0 m 414 ls [])) : W p l e room_1 s m #[Value.ref b] below meth c H locs cells slots Q (F0 m 104 ls []) := by
  have hA : ∀ q : Nat, s.heap.size ≤ q → (fun q : Nat => s.heap.size ≤ q) q := fun _ h => h
  have hbA : ¬ (fun q : Nat => s.heap.size ≤ q) b := Nat.not_le.mpr hbl
  have hF := zInv_ok hI
  refine lv_aload_n hx hb dL_law_104 rfl (lv_at hl 1 rfl) ?_
  refine lv_aload_n hx hb dL_law_105 rfl (lv_at hl 0 rfl) ?_
  refine lv_iload_n hx hb dL_law_106 rfl (lv_at hl 3 rfl) ?_
  refine zr_iconstN 1 hx hb dL_law_107 rfl ?_
  refine zr_iaddN hx hb dL_law_108 ?_
  refine zr_sld hx hb hX hbl hbA hS (i + 1) rfl (by omega) (by omega) dL_law_109 ?_
  have hPc := hP.sub (ws' := wX h0 a1 a2 a3 dA cn pp ss kk tn) [0, 1, 2, 3] rfl
  have hDc := hD.sub (ws' := wX h0 a1 a2 a3 dA cn pp ss kk tn) [0, 1, 2, 3] (by decide) rfl
  have hKc := hK.sub (tys' := [(dA, .int)]) [0] rfl
  refine zc_muiJ (wr := wM g0 b1 dB F) (n := 1) (As := [.int (zI ((xs (i + 1)).toInt))]) (rest := []) ⟨hx, hb, hml, hown, hts⟩ (metX0_take l G H.size hI (zIn_of _)) (lw_V q58 q59 q60 q15 q61) ⟨rfl, rfl⟩ (by decide +kernel) ⟨Nat.le_of_ble_eq_true rfl, Nat.le_of_ble_eq_true rfl⟩ hKc hP hD hS hA hPc hDc [0, 1, 2, 3] [4, 5] rfl rfl (by decide) (by decide) 0 0 rfl rfl rfl rfl rfl hl (Nat.le_of_ble_eq_true rfl) hcs dL_law_110 (fun r1 u1 H locs g1 hP hD hS => ?_)
  obtain ⟨c1, p1, s1, k1, t1⟩ := u1
  have hP : va_P G vwCl (w6 h0 a1 a2 a3 dA g0 b1 dB c1 p1 s1 k1 t1 F) H := hP.sub [2, 3, 4, 5, 0, 1] rfl
  have hD : va_D (fun q : Nat => s.heap.size ≤ q) (w6 h0 a1 a2 a3 dA g0 b1 dB c1 p1 s1 k1 t1 F) := hD.sub [2, 3, 4, 5, 0, 1] (by decide) rfl
  obtain ⟨q1, F1, rfl, hq1, hI1⟩ := g1
  refine lv_aload_n hx hb dL_law_113 rfl (lv_at hl 2 rfl) ?_
  refine lv_aload_n hx hb dL_law_114 rfl (lv_at hl 0 rfl) ?_
  refine lv_iload_n hx hb dL_law_115 rfl (lv_at hl 3 rfl) ?_
  refine zr_iconstN 1 hx hb dL_law_116 rfl ?_
  refine zr_iaddN hx hb dL_law_117 ?_
  refine zr_sld hx hb hX hbl hbA hS (i + 1) rfl (by omega) (by omega) dL_law_118 ?_
  have hPc := hP.sub (ws' := wM g0 b1 dB F) [4, 5] rfl
  have hDc := hD.sub (ws' := wM g0 b1 dB F) [4, 5] (by decide) rfl
  have hKc := hK.sub (tys' := [(dB, .boolean)]) [1] rfl
  refine zc_muiJ (wr := wX h0 a1 a2 a3 dA c1 p1 s1 k1 t1) (n := 1) (As := [.int (zI ((xs (i + 1)).toInt))]) (rest := [.int (zI q1)]) ⟨hx, hb, hml, hown, hts⟩ (metX1_take l G H.size hF (zIn_of _)) (lw_V q147 q148 q149 q16 q150) ⟨rfl, rfl⟩ (by decide +kernel) ⟨Nat.le_of_ble_eq_true rfl, Nat.le_of_ble_eq_true rfl⟩ hKc hP hD hS hA hPc hDc [4, 5] [0, 1, 2, 3] rfl rfl (by decide) (by decide) 0 1 rfl rfl rfl rfl rfl hl (Nat.le_of_ble_eq_true rfl) hcs dL_law_119 (fun r2 u2 H locs g2 hP hD hS => ?_)
  obtain ⟨q2, rfl, hq2⟩ := g2
  obtain ⟨e1, e2⟩ := zsTake_det hq1 hq2
  subst e1
  subst e2
  have hP : va_P G vwCl (w6 h0 a1 a2 a3 dA g0 b1 dB c1 p1 s1 k1 t1 F1) H := hP
  have hD : va_D (fun q : Nat => s.heap.size ≤ q) (w6 h0 a1 a2 a3 dA g0 b1 dB c1 p1 s1 k1 t1 F1) := hD
  refine lv_icmp_eq (tgt := 414) hx hb dL_law_122 (by decide) (fun _ => ?_) (fun h9 => absurd rfl h9)
  exact kx F1 c1 p1 s1 k1 t1 H locs ls hI1 hP hD hS hl
set_option maxHeartbeats 4000000 in
set_option maxRecDepth 100000 in
theorem law_c1 {p : Program} {l : Launch} {e : Env} {s : State} {m : MethodId} {below : List Frame} {meth : Method} {c : Code} {cells slots : Nat} {Q : State → Prop} {G : va_G} {h0 a1 a2 a3 : Nat} {dA : ClassId} {g0 b1 : Nat} {dB : ClassId} {b L : Nat} {xs : Nat → Int32} (hx : p.tables.exec = Jvm.exec) (hb : c.code = cL_law) (hml : c.maxLocals = 4) (hown : s.vm.findClass R_law = some m.cls) (hts : ∀ w ∈ lw_all, w.before #[Value.ref b] s = true) (hX : va_X b L xs s s.heap) (hbl : b < s.heap.size) (hL : L ≤ 192) (hcs : cells ≤ 600000 ∧ slots ≤ 7290000) (hK : va_K G vwCl [(dA, .int), (dB, .boolean)] s) {F : Nat → Bool} {cn tn : Nat} {pp ss kk : Nat → Nat} (hI : zInv F cn pp ss kk tn) {i : Nat} (hi : i + 3 ≤ L) {H : Heap} {locs : List Loc} {ls : Array Slot} (hP : va_P G vwCl (w6 h0 a1 a2 a3 dA g0 b1 dB cn pp ss kk tn F) H) (hD : va_D (fun q : Nat => s.heap.size ≤ q) (w6 h0 a1 a2 a3 dA g0 b1 dB cn pp ss kk tn F)) (hS : va_S (fun q : Nat => s.heap.size ≤ q) s.heap H locs) (hl : lv_has ls 4 [(0, .ref b), (1, .ref h0), (2, .ref g0), (3, .int (zI ((i : Nat) : Int)))])
    (kx : ∀ (F : Nat → Bool) (cn : Nat) (pp ss kk : Nat → Nat) (tn : Nat) (H : Heap) (locs : List Loc) (ls : Array Slot), zInv F cn pp ss kk tn → va_P G vwCl (w6 h0 a1 a2 a3 dA g0 b1 dB cn pp ss kk tn F) H → va_D (fun q : Nat => s.heap.size ≤ q) (w6 h0 a1 a2 a3 dA g0 b1 dB cn pp ss kk tn F) → va_S (fun q : Nat => s.heap.size ≤ q) s.heap H locs → lv_has ls 4 [(0, .ref b), (1, .ref h0), (2, .ref g0), (3, .int (zI ((i : Nat) : Int)))] → W p l e room_1 s m #[Value.ref b] below meth c H locs cells slots Q (F0 m 414 ls [])) : W p l e room_1 s m #[Value.ref b] below meth c H locs cells slots Q (F0 m 127 ls []) := by
  have hA : ∀ q : Nat, s.heap.size ≤ q → (fun q : Nat => s.heap.size ≤ q) q := fun _ h => h
  have hbA : ¬ (fun q : Nat => s.heap.size ≤ q) b := Nat.not_le.mpr hbl
  have hF := zInv_ok hI
  refine lv_aload_n hx hb dL_law_127 rfl (lv_at hl 1 rfl) ?_
  refine lv_aload_n hx hb dL_law_128 rfl (lv_at hl 0 rfl) ?_
  refine lv_iload_n hx hb dL_law_129 rfl (lv_at hl 3 rfl) ?_
  refine zr_iconstN 1 hx hb dL_law_130 rfl ?_
  refine zr_iaddN hx hb dL_law_131 ?_
  refine zr_sld hx hb hX hbl hbA hS (i + 1) rfl (by omega) (by omega) dL_law_132 ?_
  refine lv_aload_n hx hb dL_law_133 rfl (lv_at hl 0 rfl) ?_
  refine lv_iload_n hx hb dL_law_134 rfl (lv_at hl 3 rfl) ?_
  refine zr_iconstN 2 hx hb dL_law_135 rfl ?_
  refine zr_iaddN hx hb dL_law_136 ?_
  refine zr_sld hx hb hX hbl hbA hS (i + 2) rfl (by omega) (by omega) dL_law_137 ?_
  have hPc := hP.sub (ws' := wX h0 a1 a2 a3 dA cn pp ss kk tn) [0, 1, 2, 3] rfl
  have hDc := hD.sub (ws' := wX h0 a1 a2 a3 dA cn pp ss kk tn) [0, 1, 2, 3] (by decide) rfl
  have hKc := hK.sub (tys' := [(dA, .int)]) [0] rfl
  refine zc_muiJ (wr := wM g0 b1 dB F) (n := 2) (As := [.int (zI ((xs (i + 1)).toInt)), .int (zI ((xs (i + 2)).toInt))]) (rest := []) ⟨hx, hb, hml, hown, hts⟩ (metX0_takeNear l G H.size hI (zIn_of _) (zIn_of _)) (lw_V q73 q74 q75 q15 q76) ⟨rfl, rfl⟩ (by decide +kernel) ⟨Nat.le_of_ble_eq_true rfl, Nat.le_of_ble_eq_true rfl⟩ hKc hP hD hS hA hPc hDc [0, 1, 2, 3] [4, 5] rfl rfl (by decide) (by decide) 0 0 rfl rfl rfl rfl rfl hl (Nat.le_of_ble_eq_true rfl) hcs dL_law_138 (fun r1 u1 H locs g1 hP hD hS => ?_)
  obtain ⟨c1, p1, s1, k1, t1⟩ := u1
  have hP : va_P G vwCl (w6 h0 a1 a2 a3 dA g0 b1 dB c1 p1 s1 k1 t1 F) H := hP.sub [2, 3, 4, 5, 0, 1] rfl
  have hD : va_D (fun q : Nat => s.heap.size ≤ q) (w6 h0 a1 a2 a3 dA g0 b1 dB c1 p1 s1 k1 t1 F) := hD.sub [2, 3, 4, 5, 0, 1] (by decide) rfl
  obtain ⟨q1, F1, rfl, hq1, hI1⟩ := g1
  refine lv_aload_n hx hb dL_law_141 rfl (lv_at hl 2 rfl) ?_
  refine lv_aload_n hx hb dL_law_142 rfl (lv_at hl 0 rfl) ?_
  refine lv_iload_n hx hb dL_law_143 rfl (lv_at hl 3 rfl) ?_
  refine zr_iconstN 1 hx hb dL_law_144 rfl ?_
  refine zr_iaddN hx hb dL_law_145 ?_
  refine zr_sld hx hb hX hbl hbA hS (i + 1) rfl (by omega) (by omega) dL_law_146 ?_
  refine lv_aload_n hx hb dL_law_147 rfl (lv_at hl 0 rfl) ?_
  refine lv_iload_n hx hb dL_law_148 rfl (lv_at hl 3 rfl) ?_
  refine zr_iconstN 2 hx hb dL_law_149 rfl ?_
  refine zr_iaddN hx hb dL_law_150 ?_
  refine zr_sld hx hb hX hbl hbA hS (i + 2) rfl (by omega) (by omega) dL_law_151 ?_
  have hPc := hP.sub (ws' := wM g0 b1 dB F) [4, 5] rfl
  have hDc := hD.sub (ws' := wM g0 b1 dB F) [4, 5] (by decide) rfl
  have hKc := hK.sub (tys' := [(dB, .boolean)]) [1] rfl
  refine zc_muiJ (wr := wX h0 a1 a2 a3 dA c1 p1 s1 k1 t1) (n := 2) (As := [.int (zI ((xs (i + 1)).toInt)), .int (zI ((xs (i + 2)).toInt))]) (rest := [.int (zI q1)]) ⟨hx, hb, hml, hown, hts⟩ (metX1_takeNear l G H.size hF (zIn_of _) (zIn_of _)) (lw_V q171 q172 q173 q16 q174) ⟨rfl, rfl⟩ (by decide +kernel) ⟨Nat.le_of_ble_eq_true rfl, Nat.le_of_ble_eq_true rfl⟩ hKc hP hD hS hA hPc hDc [4, 5] [0, 1, 2, 3] rfl rfl (by decide) (by decide) 0 1 rfl rfl rfl rfl rfl hl (Nat.le_of_ble_eq_true rfl) hcs dL_law_152 (fun r2 u2 H locs g2 hP hD hS => ?_)
  obtain ⟨q2, rfl, hq2⟩ := g2
  obtain ⟨e1, e2⟩ := zsNear_det hq1 hq2
  subst e1
  subst e2
  have hP : va_P G vwCl (w6 h0 a1 a2 a3 dA g0 b1 dB c1 p1 s1 k1 t1 F1) H := hP
  have hD : va_D (fun q : Nat => s.heap.size ≤ q) (w6 h0 a1 a2 a3 dA g0 b1 dB c1 p1 s1 k1 t1 F1) := hD
  refine lv_icmp_eq (tgt := 414) hx hb dL_law_155 (by decide) (fun _ => ?_) (fun h9 => absurd rfl h9)
  exact kx F1 c1 p1 s1 k1 t1 H locs ls hI1 hP hD hS hl
set_option maxHeartbeats 4000000 in
set_option maxRecDepth 100000 in
theorem law_c2 {p : Program} {l : Launch} {e : Env} {s : State} {m : MethodId} {below : List Frame} {meth : Method} {c : Code} {cells slots : Nat} {Q : State → Prop} {G : va_G} {h0 a1 a2 a3 : Nat} {dA : ClassId} {g0 b1 : Nat} {dB : ClassId} {b L : Nat} {xs : Nat → Int32} (hx : p.tables.exec = Jvm.exec) (hb : c.code = cL_law) (hml : c.maxLocals = 4) (hown : s.vm.findClass R_law = some m.cls) (hts : ∀ w ∈ lw_all, w.before #[Value.ref b] s = true) (hX : va_X b L xs s s.heap) (hbl : b < s.heap.size) (hL : L ≤ 192) (hcs : cells ≤ 600000 ∧ slots ≤ 7290000) (hK : va_K G vwCl [(dA, .int), (dB, .boolean)] s) {F : Nat → Bool} {cn tn : Nat} {pp ss kk : Nat → Nat} (hI : zInv F cn pp ss kk tn) {i : Nat} (hi : i + 3 ≤ L) {H : Heap} {locs : List Loc} {ls : Array Slot} (hP : va_P G vwCl (w6 h0 a1 a2 a3 dA g0 b1 dB cn pp ss kk tn F) H) (hD : va_D (fun q : Nat => s.heap.size ≤ q) (w6 h0 a1 a2 a3 dA g0 b1 dB cn pp ss kk tn F)) (hS : va_S (fun q : Nat => s.heap.size ≤ q) s.heap H locs) (hl : lv_has ls 4 [(0, .ref b), (1, .ref h0), (2, .ref g0), (3, .int (zI ((i : Nat) : Int)))])
    (kx : ∀ (F : Nat → Bool) (cn : Nat) (pp ss kk : Nat → Nat) (tn : Nat) (H : Heap) (locs : List Loc) (ls : Array Slot), zInv F cn pp ss kk tn → va_P G vwCl (w6 h0 a1 a2 a3 dA g0 b1 dB cn pp ss kk tn F) H → va_D (fun q : Nat => s.heap.size ≤ q) (w6 h0 a1 a2 a3 dA g0 b1 dB cn pp ss kk tn F) → va_S (fun q : Nat => s.heap.size ≤ q) s.heap H locs → lv_has ls 4 [(0, .ref b), (1, .ref h0), (2, .ref g0), (3, .int (zI ((i : Nat) : Int)))] → W p l e room_1 s m #[Value.ref b] below meth c H locs cells slots Q (F0 m 414 ls [])) : W p l e room_1 s m #[Value.ref b] below meth c H locs cells slots Q (F0 m 160 ls []) := by
  have hA : ∀ q : Nat, s.heap.size ≤ q → (fun q : Nat => s.heap.size ≤ q) q := fun _ h => h
  have hbA : ¬ (fun q : Nat => s.heap.size ≤ q) b := Nat.not_le.mpr hbl
  have hF := zInv_ok hI
  refine lv_aload_n hx hb dL_law_160 rfl (lv_at hl 1 rfl) ?_
  refine lv_aload_n hx hb dL_law_161 rfl (lv_at hl 0 rfl) ?_
  refine lv_iload_n hx hb dL_law_162 rfl (lv_at hl 3 rfl) ?_
  refine zr_iconstN 1 hx hb dL_law_163 rfl ?_
  refine zr_iaddN hx hb dL_law_164 ?_
  refine zr_sld hx hb hX hbl hbA hS (i + 1) rfl (by omega) (by omega) dL_law_165 ?_
  refine lv_aload_n hx hb dL_law_166 rfl (lv_at hl 0 rfl) ?_
  refine lv_iload_n hx hb dL_law_167 rfl (lv_at hl 3 rfl) ?_
  refine zr_iconstN 2 hx hb dL_law_168 rfl ?_
  refine zr_iaddN hx hb dL_law_169 ?_
  refine zr_sld hx hb hX hbl hbA hS (i + 2) rfl (by omega) (by omega) dL_law_170 ?_
  have hPc := hP.sub (ws' := wX h0 a1 a2 a3 dA cn pp ss kk tn) [0, 1, 2, 3] rfl
  have hDc := hD.sub (ws' := wX h0 a1 a2 a3 dA cn pp ss kk tn) [0, 1, 2, 3] (by decide) rfl
  have hKc := hK.sub (tys' := [(dA, .int)]) [0] rfl
  refine zc_muiJ (wr := wM g0 b1 dB F) (n := 2) (As := [.int (zI ((xs (i + 1)).toInt)), .int (zI ((xs (i + 2)).toInt))]) (rest := []) ⟨hx, hb, hml, hown, hts⟩ (metX0_takeAt l G H.size hI (zIn_of _) (zIn_of _)) (lw_V q80 q81 q82 q15 q83) ⟨rfl, rfl⟩ (by decide +kernel) ⟨Nat.le_of_ble_eq_true rfl, Nat.le_of_ble_eq_true rfl⟩ hKc hP hD hS hA hPc hDc [0, 1, 2, 3] [4, 5] rfl rfl (by decide) (by decide) 0 0 rfl rfl rfl rfl rfl hl (Nat.le_of_ble_eq_true rfl) hcs dL_law_171 (fun r1 u1 H locs g1 hP hD hS => ?_)
  obtain ⟨c1, p1, s1, k1, t1⟩ := u1
  have hP : va_P G vwCl (w6 h0 a1 a2 a3 dA g0 b1 dB c1 p1 s1 k1 t1 F) H := hP.sub [2, 3, 4, 5, 0, 1] rfl
  have hD : va_D (fun q : Nat => s.heap.size ≤ q) (w6 h0 a1 a2 a3 dA g0 b1 dB c1 p1 s1 k1 t1 F) := hD.sub [2, 3, 4, 5, 0, 1] (by decide) rfl
  obtain ⟨q1, F1, rfl, hq1, hI1⟩ := g1
  refine lv_aload_n hx hb dL_law_174 rfl (lv_at hl 2 rfl) ?_
  refine lv_aload_n hx hb dL_law_175 rfl (lv_at hl 0 rfl) ?_
  refine lv_iload_n hx hb dL_law_176 rfl (lv_at hl 3 rfl) ?_
  refine zr_iconstN 1 hx hb dL_law_177 rfl ?_
  refine zr_iaddN hx hb dL_law_178 ?_
  refine zr_sld hx hb hX hbl hbA hS (i + 1) rfl (by omega) (by omega) dL_law_179 ?_
  refine lv_aload_n hx hb dL_law_180 rfl (lv_at hl 0 rfl) ?_
  refine lv_iload_n hx hb dL_law_181 rfl (lv_at hl 3 rfl) ?_
  refine zr_iconstN 2 hx hb dL_law_182 rfl ?_
  refine zr_iaddN hx hb dL_law_183 ?_
  refine zr_sld hx hb hX hbl hbA hS (i + 2) rfl (by omega) (by omega) dL_law_184 ?_
  have hPc := hP.sub (ws' := wM g0 b1 dB F) [4, 5] rfl
  have hDc := hD.sub (ws' := wM g0 b1 dB F) [4, 5] (by decide) rfl
  have hKc := hK.sub (tys' := [(dB, .boolean)]) [1] rfl
  refine zc_muiJ (wr := wX h0 a1 a2 a3 dA c1 p1 s1 k1 t1) (n := 2) (As := [.int (zI ((xs (i + 1)).toInt)), .int (zI ((xs (i + 2)).toInt))]) (rest := [.int (zI q1)]) ⟨hx, hb, hml, hown, hts⟩ (metX1_takeAt l G H.size hF (zIn_of _) (zIn_of _)) (lw_V q179 q180 q181 q16 q182) ⟨rfl, rfl⟩ (by decide +kernel) ⟨Nat.le_of_ble_eq_true rfl, Nat.le_of_ble_eq_true rfl⟩ hKc hP hD hS hA hPc hDc [4, 5] [0, 1, 2, 3] rfl rfl (by decide) (by decide) 0 1 rfl rfl rfl rfl rfl hl (Nat.le_of_ble_eq_true rfl) hcs dL_law_185 (fun r2 u2 H locs g2 hP hD hS => ?_)
  obtain ⟨q2, rfl, hq2⟩ := g2
  obtain ⟨e1, e2⟩ := zsAt_det hq1 hq2
  subst e1
  subst e2
  have hP : va_P G vwCl (w6 h0 a1 a2 a3 dA g0 b1 dB c1 p1 s1 k1 t1 F1) H := hP
  have hD : va_D (fun q : Nat => s.heap.size ≤ q) (w6 h0 a1 a2 a3 dA g0 b1 dB c1 p1 s1 k1 t1 F1) := hD
  refine lv_icmp_eq (tgt := 414) hx hb dL_law_188 (by decide) (fun _ => ?_) (fun h9 => absurd rfl h9)
  exact kx F1 c1 p1 s1 k1 t1 H locs ls hI1 hP hD hS hl
set_option maxHeartbeats 4000000 in
set_option maxRecDepth 100000 in
theorem law_c3 {p : Program} {l : Launch} {e : Env} {s : State} {m : MethodId} {below : List Frame} {meth : Method} {c : Code} {cells slots : Nat} {Q : State → Prop} {G : va_G} {h0 a1 a2 a3 : Nat} {dA : ClassId} {g0 b1 : Nat} {dB : ClassId} {b L : Nat} {xs : Nat → Int32} (hx : p.tables.exec = Jvm.exec) (hb : c.code = cL_law) (hml : c.maxLocals = 4) (hown : s.vm.findClass R_law = some m.cls) (hts : ∀ w ∈ lw_all, w.before #[Value.ref b] s = true) (hX : va_X b L xs s s.heap) (hbl : b < s.heap.size) (hL : L ≤ 192) (hcs : cells ≤ 600000 ∧ slots ≤ 7290000) (hK : va_K G vwCl [(dA, .int), (dB, .boolean)] s) {F : Nat → Bool} {cn tn : Nat} {pp ss kk : Nat → Nat} (hI : zInv F cn pp ss kk tn) {i : Nat} (hi : i + 3 ≤ L) {H : Heap} {locs : List Loc} {ls : Array Slot} (hP : va_P G vwCl (w6 h0 a1 a2 a3 dA g0 b1 dB cn pp ss kk tn F) H) (hD : va_D (fun q : Nat => s.heap.size ≤ q) (w6 h0 a1 a2 a3 dA g0 b1 dB cn pp ss kk tn F)) (hS : va_S (fun q : Nat => s.heap.size ≤ q) s.heap H locs) (hl : lv_has ls 4 [(0, .ref b), (1, .ref h0), (2, .ref g0), (3, .int (zI ((i : Nat) : Int)))])
    (kx : ∀ (F : Nat → Bool) (cn : Nat) (pp ss kk : Nat → Nat) (tn : Nat) (H : Heap) (locs : List Loc) (ls : Array Slot), zInv F cn pp ss kk tn → va_P G vwCl (w6 h0 a1 a2 a3 dA g0 b1 dB cn pp ss kk tn F) H → va_D (fun q : Nat => s.heap.size ≤ q) (w6 h0 a1 a2 a3 dA g0 b1 dB cn pp ss kk tn F) → va_S (fun q : Nat => s.heap.size ≤ q) s.heap H locs → lv_has ls 4 [(0, .ref b), (1, .ref h0), (2, .ref g0), (3, .int (zI ((i : Nat) : Int)))] → W p l e room_1 s m #[Value.ref b] below meth c H locs cells slots Q (F0 m 414 ls [])) : W p l e room_1 s m #[Value.ref b] below meth c H locs cells slots Q (F0 m 193 ls []) := by
  have hA : ∀ q : Nat, s.heap.size ≤ q → (fun q : Nat => s.heap.size ≤ q) q := fun _ h => h
  have hbA : ¬ (fun q : Nat => s.heap.size ≤ q) b := Nat.not_le.mpr hbl
  have hF := zInv_ok hI
  refine lv_aload_n hx hb dL_law_193 rfl (lv_at hl 1 rfl) ?_
  refine lv_aload_n hx hb dL_law_194 rfl (lv_at hl 0 rfl) ?_
  refine lv_iload_n hx hb dL_law_195 rfl (lv_at hl 3 rfl) ?_
  refine zr_iconstN 1 hx hb dL_law_196 rfl ?_
  refine zr_iaddN hx hb dL_law_197 ?_
  refine zr_sld hx hb hX hbl hbA hS (i + 1) rfl (by omega) (by omega) dL_law_198 ?_
  refine lv_aload_n hx hb dL_law_199 rfl (lv_at hl 0 rfl) ?_
  refine lv_iload_n hx hb dL_law_200 rfl (lv_at hl 3 rfl) ?_
  refine zr_iconstN 2 hx hb dL_law_201 rfl ?_
  refine zr_iaddN hx hb dL_law_202 ?_
  refine zr_sld hx hb hX hbl hbA hS (i + 2) rfl (by omega) (by omega) dL_law_203 ?_
  have hPc := hP.sub (ws' := wX h0 a1 a2 a3 dA cn pp ss kk tn) [0, 1, 2, 3] rfl
  have hDc := hD.sub (ws' := wX h0 a1 a2 a3 dA cn pp ss kk tn) [0, 1, 2, 3] (by decide) rfl
  have hKc := hK.sub (tys' := [(dA, .int)]) [0] rfl
  refine zc_muiJ (wr := wM g0 b1 dB F) (n := 2) (As := [.int (zI ((xs (i + 1)).toInt)), .int (zI ((xs (i + 2)).toInt))]) (rest := []) ⟨hx, hb, hml, hown, hts⟩ (metX0_give l G H.size hI (zIn_of _) (zIn_of _)) (lw_V q91 q92 q93 q15 q94) ⟨rfl, rfl⟩ (by decide +kernel) ⟨Nat.le_of_ble_eq_true rfl, Nat.le_of_ble_eq_true rfl⟩ hKc hP hD hS hA hPc hDc [0, 1, 2, 3] [4, 5] rfl rfl (by decide) (by decide) 0 0 rfl rfl rfl rfl rfl hl (Nat.le_of_ble_eq_true rfl) hcs dL_law_204 (fun r1 u1 H locs g1 hP hD hS => ?_)
  obtain ⟨c1, p1, s1, k1, t1⟩ := u1
  have hP : va_P G vwCl (w6 h0 a1 a2 a3 dA g0 b1 dB c1 p1 s1 k1 t1 F) H := hP.sub [2, 3, 4, 5, 0, 1] rfl
  have hD : va_D (fun q : Nat => s.heap.size ≤ q) (w6 h0 a1 a2 a3 dA g0 b1 dB c1 p1 s1 k1 t1 F) := hD.sub [2, 3, 4, 5, 0, 1] (by decide) rfl
  obtain ⟨q1, F1, rfl, hq1, hI1⟩ := g1
  refine lv_aload_n hx hb dL_law_207 rfl (lv_at hl 2 rfl) ?_
  refine lv_aload_n hx hb dL_law_208 rfl (lv_at hl 0 rfl) ?_
  refine lv_iload_n hx hb dL_law_209 rfl (lv_at hl 3 rfl) ?_
  refine zr_iconstN 1 hx hb dL_law_210 rfl ?_
  refine zr_iaddN hx hb dL_law_211 ?_
  refine zr_sld hx hb hX hbl hbA hS (i + 1) rfl (by omega) (by omega) dL_law_212 ?_
  refine lv_aload_n hx hb dL_law_213 rfl (lv_at hl 0 rfl) ?_
  refine lv_iload_n hx hb dL_law_214 rfl (lv_at hl 3 rfl) ?_
  refine zr_iconstN 2 hx hb dL_law_215 rfl ?_
  refine zr_iaddN hx hb dL_law_216 ?_
  refine zr_sld hx hb hX hbl hbA hS (i + 2) rfl (by omega) (by omega) dL_law_217 ?_
  have hPc := hP.sub (ws' := wM g0 b1 dB F) [4, 5] rfl
  have hDc := hD.sub (ws' := wM g0 b1 dB F) [4, 5] (by decide) rfl
  have hKc := hK.sub (tys' := [(dB, .boolean)]) [1] rfl
  refine zc_muiJ (wr := wX h0 a1 a2 a3 dA c1 p1 s1 k1 t1) (n := 2) (As := [.int (zI ((xs (i + 1)).toInt)), .int (zI ((xs (i + 2)).toInt))]) (rest := [.int (zI q1)]) ⟨hx, hb, hml, hown, hts⟩ (metX1_give l G H.size hF (zIn_of _) (zIn_of _)) (lw_V q195 q196 q197 q16 q198) ⟨rfl, rfl⟩ (by decide +kernel) ⟨Nat.le_of_ble_eq_true rfl, Nat.le_of_ble_eq_true rfl⟩ hKc hP hD hS hA hPc hDc [4, 5] [0, 1, 2, 3] rfl rfl (by decide) (by decide) 0 1 rfl rfl rfl rfl rfl hl (Nat.le_of_ble_eq_true rfl) hcs dL_law_218 (fun r2 u2 H locs g2 hP hD hS => ?_)
  obtain ⟨q2, rfl, hq2⟩ := g2
  obtain ⟨e1, e2⟩ := zsGive_det hq1 hq2
  subst e1
  subst e2
  have hP : va_P G vwCl (w6 h0 a1 a2 a3 dA g0 b1 dB c1 p1 s1 k1 t1 F1) H := hP
  have hD : va_D (fun q : Nat => s.heap.size ≤ q) (w6 h0 a1 a2 a3 dA g0 b1 dB c1 p1 s1 k1 t1 F1) := hD
  refine lv_icmp_eq (tgt := 414) hx hb dL_law_221 (by decide) (fun _ => ?_) (fun h9 => absurd rfl h9)
  exact kx F1 c1 p1 s1 k1 t1 H locs ls hI1 hP hD hS hl
set_option maxHeartbeats 4000000 in
set_option maxRecDepth 100000 in
theorem law_c4 {p : Program} {l : Launch} {e : Env} {s : State} {m : MethodId} {below : List Frame} {meth : Method} {c : Code} {cells slots : Nat} {Q : State → Prop} {G : va_G} {h0 a1 a2 a3 : Nat} {dA : ClassId} {g0 b1 : Nat} {dB : ClassId} {b L : Nat} {xs : Nat → Int32} (hx : p.tables.exec = Jvm.exec) (hb : c.code = cL_law) (hml : c.maxLocals = 4) (hown : s.vm.findClass R_law = some m.cls) (hts : ∀ w ∈ lw_all, w.before #[Value.ref b] s = true) (hX : va_X b L xs s s.heap) (hbl : b < s.heap.size) (hL : L ≤ 192) (hcs : cells ≤ 600000 ∧ slots ≤ 7290000) (hK : va_K G vwCl [(dA, .int), (dB, .boolean)] s) {F : Nat → Bool} {cn tn : Nat} {pp ss kk : Nat → Nat} (hI : zInv F cn pp ss kk tn) {i : Nat} (hi : i + 3 ≤ L) {H : Heap} {locs : List Loc} {ls : Array Slot} (hP : va_P G vwCl (w6 h0 a1 a2 a3 dA g0 b1 dB cn pp ss kk tn F) H) (hD : va_D (fun q : Nat => s.heap.size ≤ q) (w6 h0 a1 a2 a3 dA g0 b1 dB cn pp ss kk tn F)) (hS : va_S (fun q : Nat => s.heap.size ≤ q) s.heap H locs) (hl : lv_has ls 4 [(0, .ref b), (1, .ref h0), (2, .ref g0), (3, .int (zI ((i : Nat) : Int)))])
    (kx : ∀ (F : Nat → Bool) (cn : Nat) (pp ss kk : Nat → Nat) (tn : Nat) (H : Heap) (locs : List Loc) (ls : Array Slot), zInv F cn pp ss kk tn → va_P G vwCl (w6 h0 a1 a2 a3 dA g0 b1 dB cn pp ss kk tn F) H → va_D (fun q : Nat => s.heap.size ≤ q) (w6 h0 a1 a2 a3 dA g0 b1 dB cn pp ss kk tn F) → va_S (fun q : Nat => s.heap.size ≤ q) s.heap H locs → lv_has ls 4 [(0, .ref b), (1, .ref h0), (2, .ref g0), (3, .int (zI ((i : Nat) : Int)))] → W p l e room_1 s m #[Value.ref b] below meth c H locs cells slots Q (F0 m 414 ls [])) : W p l e room_1 s m #[Value.ref b] below meth c H locs cells slots Q (F0 m 226 ls []) := by
  have hA : ∀ q : Nat, s.heap.size ≤ q → (fun q : Nat => s.heap.size ≤ q) q := fun _ h => h
  have hbA : ¬ (fun q : Nat => s.heap.size ≤ q) b := Nat.not_le.mpr hbl
  have hF := zInv_ok hI
  refine lv_aload_n hx hb dL_law_226 rfl (lv_at hl 1 rfl) ?_
  refine lv_aload_n hx hb dL_law_227 rfl (lv_at hl 0 rfl) ?_
  refine lv_iload_n hx hb dL_law_228 rfl (lv_at hl 3 rfl) ?_
  refine zr_iconstN 1 hx hb dL_law_229 rfl ?_
  refine zr_iaddN hx hb dL_law_230 ?_
  refine zr_sld hx hb hX hbl hbA hS (i + 1) rfl (by omega) (by omega) dL_law_231 ?_
  have hPc := hP.sub (ws' := wX h0 a1 a2 a3 dA cn pp ss kk tn) [0, 1, 2, 3] rfl
  have hDc := hD.sub (ws' := wX h0 a1 a2 a3 dA cn pp ss kk tn) [0, 1, 2, 3] (by decide) rfl
  have hKc := hK.sub (tys' := [(dA, .int)]) [0] rfl
  refine zc_muiJ (wr := wM g0 b1 dB F) (n := 1) (As := [.int (zI ((xs (i + 1)).toInt))]) (rest := []) ⟨hx, hb, hml, hown, hts⟩ (metX0_takePieces l G H.size hI (zIn_of _)) (lw_V q95 q96 q97 q15 q98) ⟨rfl, rfl⟩ (by decide +kernel) ⟨Nat.le_of_ble_eq_true rfl, Nat.le_of_ble_eq_true rfl⟩ hKc hP hD hS hA hPc hDc [0, 1, 2, 3] [4, 5] rfl rfl (by decide) (by decide) 0 0 rfl rfl rfl rfl rfl hl (Nat.le_of_ble_eq_true rfl) hcs dL_law_232 (fun r1 u1 H locs g1 hP hD hS => ?_)
  obtain ⟨c1, p1, s1, k1, t1⟩ := u1
  have hP : va_P G vwCl (w6 h0 a1 a2 a3 dA g0 b1 dB c1 p1 s1 k1 t1 F) H := hP.sub [2, 3, 4, 5, 0, 1] rfl
  have hD : va_D (fun q : Nat => s.heap.size ≤ q) (w6 h0 a1 a2 a3 dA g0 b1 dB c1 p1 s1 k1 t1 F) := hD.sub [2, 3, 4, 5, 0, 1] (by decide) rfl
  obtain ⟨q1, F1, rfl, hq1, hI1⟩ := g1
  refine lv_aload_n hx hb dL_law_235 rfl (lv_at hl 2 rfl) ?_
  refine lv_aload_n hx hb dL_law_236 rfl (lv_at hl 0 rfl) ?_
  refine lv_iload_n hx hb dL_law_237 rfl (lv_at hl 3 rfl) ?_
  refine zr_iconstN 1 hx hb dL_law_238 rfl ?_
  refine zr_iaddN hx hb dL_law_239 ?_
  refine zr_sld hx hb hX hbl hbA hS (i + 1) rfl (by omega) (by omega) dL_law_240 ?_
  have hPc := hP.sub (ws' := wM g0 b1 dB F) [4, 5] rfl
  have hDc := hD.sub (ws' := wM g0 b1 dB F) [4, 5] (by decide) rfl
  have hKc := hK.sub (tys' := [(dB, .boolean)]) [1] rfl
  refine zc_muiJ (wr := wX h0 a1 a2 a3 dA c1 p1 s1 k1 t1) (n := 1) (As := [.int (zI ((xs (i + 1)).toInt))]) (rest := [.int (zI q1)]) ⟨hx, hb, hml, hown, hts⟩ (metX1_takePieces l G H.size hF (zIn_of _)) (lw_V q203 q204 q205 q16 q206) ⟨rfl, rfl⟩ (by decide +kernel) ⟨Nat.le_of_ble_eq_true rfl, Nat.le_of_ble_eq_true rfl⟩ hKc hP hD hS hA hPc hDc [4, 5] [0, 1, 2, 3] rfl rfl (by decide) (by decide) 0 1 rfl rfl rfl rfl rfl hl (Nat.le_of_ble_eq_true rfl) hcs dL_law_241 (fun r2 u2 H locs g2 hP hD hS => ?_)
  obtain ⟨q2, rfl, hq2⟩ := g2
  obtain ⟨e1, e2⟩ := zsPieces_det hq1 hq2
  subst e1
  subst e2
  have hP : va_P G vwCl (w6 h0 a1 a2 a3 dA g0 b1 dB c1 p1 s1 k1 t1 F1) H := hP
  have hD : va_D (fun q : Nat => s.heap.size ≤ q) (w6 h0 a1 a2 a3 dA g0 b1 dB c1 p1 s1 k1 t1 F1) := hD
  refine lv_icmp_eq (tgt := 414) hx hb dL_law_244 (by decide) (fun _ => ?_) (fun h9 => absurd rfl h9)
  exact kx F1 c1 p1 s1 k1 t1 H locs ls hI1 hP hD hS hl
set_option maxHeartbeats 4000000 in
set_option maxRecDepth 100000 in
theorem law_c5 {p : Program} {l : Launch} {e : Env} {s : State} {m : MethodId} {below : List Frame} {meth : Method} {c : Code} {cells slots : Nat} {Q : State → Prop} {G : va_G} {h0 a1 a2 a3 : Nat} {dA : ClassId} {g0 b1 : Nat} {dB : ClassId} {b L : Nat} {xs : Nat → Int32} (hx : p.tables.exec = Jvm.exec) (hb : c.code = cL_law) (hml : c.maxLocals = 4) (hown : s.vm.findClass R_law = some m.cls) (hts : ∀ w ∈ lw_all, w.before #[Value.ref b] s = true) (hX : va_X b L xs s s.heap) (hbl : b < s.heap.size) (hL : L ≤ 192) (hcs : cells ≤ 600000 ∧ slots ≤ 7290000) (hK : va_K G vwCl [(dA, .int), (dB, .boolean)] s) {F : Nat → Bool} {cn tn : Nat} {pp ss kk : Nat → Nat} (hI : zInv F cn pp ss kk tn) {i : Nat} (hi : i + 3 ≤ L) {H : Heap} {locs : List Loc} {ls : Array Slot} (hP : va_P G vwCl (w6 h0 a1 a2 a3 dA g0 b1 dB cn pp ss kk tn F) H) (hD : va_D (fun q : Nat => s.heap.size ≤ q) (w6 h0 a1 a2 a3 dA g0 b1 dB cn pp ss kk tn F)) (hS : va_S (fun q : Nat => s.heap.size ≤ q) s.heap H locs) (hl : lv_has ls 4 [(0, .ref b), (1, .ref h0), (2, .ref g0), (3, .int (zI ((i : Nat) : Int)))])
    (kx : ∀ (F : Nat → Bool) (cn : Nat) (pp ss kk : Nat → Nat) (tn : Nat) (H : Heap) (locs : List Loc) (ls : Array Slot), zInv F cn pp ss kk tn → va_P G vwCl (w6 h0 a1 a2 a3 dA g0 b1 dB cn pp ss kk tn F) H → va_D (fun q : Nat => s.heap.size ≤ q) (w6 h0 a1 a2 a3 dA g0 b1 dB cn pp ss kk tn F) → va_S (fun q : Nat => s.heap.size ≤ q) s.heap H locs → lv_has ls 4 [(0, .ref b), (1, .ref h0), (2, .ref g0), (3, .int (zI ((i : Nat) : Int)))] → W p l e room_1 s m #[Value.ref b] below meth c H locs cells slots Q (F0 m 414 ls [])) : W p l e room_1 s m #[Value.ref b] below meth c H locs cells slots Q (F0 m 249 ls []) := by
  have hA : ∀ q : Nat, s.heap.size ≤ q → (fun q : Nat => s.heap.size ≤ q) q := fun _ h => h
  have hbA : ¬ (fun q : Nat => s.heap.size ≤ q) b := Nat.not_le.mpr hbl
  have hF := zInv_ok hI
  refine lv_aload_n hx hb dL_law_249 rfl (lv_at hl 1 rfl) ?_
  have hPc := hP.sub (ws' := wX h0 a1 a2 a3 dA cn pp ss kk tn) [0, 1, 2, 3] rfl
  have hDc := hD.sub (ws' := wX h0 a1 a2 a3 dA cn pp ss kk tn) [0, 1, 2, 3] (by decide) rfl
  have hKc := hK.sub (tys' := [(dA, .int)]) [0] rfl
  refine zc_muvJ (wr := wM g0 b1 dB F) (n := 0) (As := []) (rest := []) ⟨hx, hb, hml, hown, hts⟩ (metX0_clear l G H.size) (lw_V q103 q26 q27 q15 q28) ⟨rfl, rfl⟩ (by decide +kernel) ⟨Nat.le_of_ble_eq_true rfl, Nat.le_of_ble_eq_true rfl⟩ hKc hP hD hS hA hPc hDc [0, 1, 2, 3] [4, 5] rfl rfl (by decide) (by decide) 0 0 rfl rfl rfl rfl rfl hl (Nat.le_of_ble_eq_true rfl) hcs dL_law_250 (fun u1 H locs g1 hP hD hS => ?_)
  obtain ⟨c1, p1, s1, k1, t1⟩ := u1
  have hP : va_P G vwCl (w6 h0 a1 a2 a3 dA g0 b1 dB c1 p1 s1 k1 t1 F) H := hP.sub [2, 3, 4, 5, 0, 1] rfl
  have hD : va_D (fun q : Nat => s.heap.size ≤ q) (w6 h0 a1 a2 a3 dA g0 b1 dB c1 p1 s1 k1 t1 F) := hD.sub [2, 3, 4, 5, 0, 1] (by decide) rfl
  refine lv_aload_n hx hb dL_law_253 rfl (lv_at hl 2 rfl) ?_
  have hPc := hP.sub (ws' := wM g0 b1 dB F) [4, 5] rfl
  have hDc := hD.sub (ws' := wM g0 b1 dB F) [4, 5] (by decide) rfl
  have hKc := hK.sub (tys' := [(dB, .boolean)]) [1] rfl
  refine zc_muvJ (wr := wX h0 a1 a2 a3 dA c1 p1 s1 k1 t1) (n := 0) (As := []) (rest := []) ⟨hx, hb, hml, hown, hts⟩ (metX1_clear l G H.size) (lw_V q211 q212 q213 q16 q214) ⟨rfl, rfl⟩ (by decide +kernel) ⟨Nat.le_of_ble_eq_true rfl, Nat.le_of_ble_eq_true rfl⟩ hKc hP hD hS hA hPc hDc [4, 5] [0, 1, 2, 3] rfl rfl (by decide) (by decide) 0 1 rfl rfl rfl rfl rfl hl (Nat.le_of_ble_eq_true rfl) hcs dL_law_254 (fun u2 H locs g2 hP hD hS => ?_)
  have e2 : zM (fun _ => false) 0 256 true = u2 := by
    rw [g2]
    funext z
    rcases Nat.lt_or_ge z 256 with v | v
    · rw [zM_in (Nat.zero_le _) (by omega), zM_in (Nat.zero_le _) (by omega)]
    · rw [zM_out (by omega), zM_out (by omega), hF z v]
  subst e2
  have hP : va_P G vwCl (w6 h0 a1 a2 a3 dA g0 b1 dB c1 p1 s1 k1 t1 zF0) H := hP
  have hD : va_D (fun q : Nat => s.heap.size ≤ q) (w6 h0 a1 a2 a3 dA g0 b1 dB c1 p1 s1 k1 t1 zF0) := hD
  refine lv_goto (tgt := 414) hx hb dL_law_257 (by decide) ?_
  exact kx zF0 c1 p1 s1 k1 t1 H locs ls g1 hP hD hS hl
set_option maxHeartbeats 4000000 in
set_option maxRecDepth 100000 in
theorem law_c6 {p : Program} {l : Launch} {e : Env} {s : State} {m : MethodId} {below : List Frame} {meth : Method} {c : Code} {cells slots : Nat} {Q : State → Prop} {G : va_G} {h0 a1 a2 a3 : Nat} {dA : ClassId} {g0 b1 : Nat} {dB : ClassId} {b L : Nat} {xs : Nat → Int32} (hx : p.tables.exec = Jvm.exec) (hb : c.code = cL_law) (hml : c.maxLocals = 4) (hown : s.vm.findClass R_law = some m.cls) (hts : ∀ w ∈ lw_all, w.before #[Value.ref b] s = true) (hX : va_X b L xs s s.heap) (hbl : b < s.heap.size) (hL : L ≤ 192) (hcs : cells ≤ 600000 ∧ slots ≤ 7290000) (hK : va_K G vwCl [(dA, .int), (dB, .boolean)] s) {F : Nat → Bool} {cn tn : Nat} {pp ss kk : Nat → Nat} (hI : zInv F cn pp ss kk tn) {i : Nat} (hi : i + 3 ≤ L) {H : Heap} {locs : List Loc} {ls : Array Slot} (hP : va_P G vwCl (w6 h0 a1 a2 a3 dA g0 b1 dB cn pp ss kk tn F) H) (hD : va_D (fun q : Nat => s.heap.size ≤ q) (w6 h0 a1 a2 a3 dA g0 b1 dB cn pp ss kk tn F)) (hS : va_S (fun q : Nat => s.heap.size ≤ q) s.heap H locs) (hl : lv_has ls 4 [(0, .ref b), (1, .ref h0), (2, .ref g0), (3, .int (zI ((i : Nat) : Int)))])
    (kx : ∀ (F : Nat → Bool) (cn : Nat) (pp ss kk : Nat → Nat) (tn : Nat) (H : Heap) (locs : List Loc) (ls : Array Slot), zInv F cn pp ss kk tn → va_P G vwCl (w6 h0 a1 a2 a3 dA g0 b1 dB cn pp ss kk tn F) H → va_D (fun q : Nat => s.heap.size ≤ q) (w6 h0 a1 a2 a3 dA g0 b1 dB cn pp ss kk tn F) → va_S (fun q : Nat => s.heap.size ≤ q) s.heap H locs → lv_has ls 4 [(0, .ref b), (1, .ref h0), (2, .ref g0), (3, .int (zI ((i : Nat) : Int)))] → W p l e room_1 s m #[Value.ref b] below meth c H locs cells slots Q (F0 m 414 ls [])) : W p l e room_1 s m #[Value.ref b] below meth c H locs cells slots Q (F0 m 260 ls []) := by
  have hA : ∀ q : Nat, s.heap.size ≤ q → (fun q : Nat => s.heap.size ≤ q) q := fun _ h => h
  have hbA : ¬ (fun q : Nat => s.heap.size ≤ q) b := Nat.not_le.mpr hbl
  have hF := zInv_ok hI
  refine lv_aload_n hx hb dL_law_260 rfl (lv_at hl 1 rfl) ?_
  refine lv_aload_n hx hb dL_law_261 rfl (lv_at hl 0 rfl) ?_
  refine lv_iload_n hx hb dL_law_262 rfl (lv_at hl 3 rfl) ?_
  refine zr_iconstN 1 hx hb dL_law_263 rfl ?_
  refine zr_iaddN hx hb dL_law_264 ?_
  refine zr_sld hx hb hX hbl hbA hS (i + 1) rfl (by omega) (by omega) dL_law_265 ?_
  have hPX := hP.sub (ws' := wX h0 a1 a2 a3 dA cn pp ss kk tn) [0, 1, 2, 3] rfl
  have hKX := hK.sub (tys' := [(dA, .int)]) [0] rfl
  have hPM := hP.sub (ws' := wM g0 b1 dB F) [4, 5] rfl
  have hKM := hK.sub (tys' := [(dB, .boolean)]) [1] rfl
  refine zc_ro (n := 1) (As := [.int (zI ((xs (i + 1)).toInt))]) (rest := []) ⟨hx, hb, hml, hown, hts⟩ (metX0_free l G hI (zIn_of _)) (lw_V q104 q105 q106 q15 q107) ⟨rfl, rfl⟩ (by decide +kernel) ⟨Nat.le_of_ble_eq_true rfl, Nat.le_of_ble_eq_true rfl⟩ hKX hPX 0 0 rfl rfl rfl rfl rfl hl (Nat.le_of_ble_eq_true rfl) hcs dL_law_266 (fun r1 g1 => ?_)
  refine lv_aload_n hx hb dL_law_269 rfl (lv_at hl 2 rfl) ?_
  refine lv_aload_n hx hb dL_law_270 rfl (lv_at hl 0 rfl) ?_
  refine lv_iload_n hx hb dL_law_271 rfl (lv_at hl 3 rfl) ?_
  refine zr_iconstN 1 hx hb dL_law_272 rfl ?_
  refine zr_iaddN hx hb dL_law_273 ?_
  refine zr_sld hx hb hX hbl hbA hS (i + 1) rfl (by omega) (by omega) dL_law_274 ?_
  refine zc_ro (n := 1) (As := [.int (zI ((xs (i + 1)).toInt))]) (rest := [.int r1]) ⟨hx, hb, hml, hown, hts⟩ (metX1_free l G hF (zIn_of _)) (lw_V q215 q216 q217 q16 q218) ⟨rfl, rfl⟩ (by decide +kernel) ⟨Nat.le_of_ble_eq_true rfl, Nat.le_of_ble_eq_true rfl⟩ hKM hPM 0 1 rfl rfl rfl rfl rfl hl (Nat.le_of_ble_eq_true rfl) hcs dL_law_275 (fun r2 g2 => ?_)
  have e1 := zB_det g1 g2
  subst e1
  refine lv_icmp_eq (tgt := 414) hx hb dL_law_278 (by decide) (fun _ => ?_) (fun h9 => absurd rfl h9)
  exact kx F cn pp ss kk tn H locs ls hI hP hD hS hl
set_option maxHeartbeats 4000000 in
set_option maxRecDepth 100000 in
theorem law_c7 {p : Program} {l : Launch} {e : Env} {s : State} {m : MethodId} {below : List Frame} {meth : Method} {c : Code} {cells slots : Nat} {Q : State → Prop} {G : va_G} {h0 a1 a2 a3 : Nat} {dA : ClassId} {g0 b1 : Nat} {dB : ClassId} {b L : Nat} {xs : Nat → Int32} (hx : p.tables.exec = Jvm.exec) (hb : c.code = cL_law) (hml : c.maxLocals = 4) (hown : s.vm.findClass R_law = some m.cls) (hts : ∀ w ∈ lw_all, w.before #[Value.ref b] s = true) (hX : va_X b L xs s s.heap) (hbl : b < s.heap.size) (hL : L ≤ 192) (hcs : cells ≤ 600000 ∧ slots ≤ 7290000) (hK : va_K G vwCl [(dA, .int), (dB, .boolean)] s) {F : Nat → Bool} {cn tn : Nat} {pp ss kk : Nat → Nat} (hI : zInv F cn pp ss kk tn) {i : Nat} (hi : i + 3 ≤ L) {H : Heap} {locs : List Loc} {ls : Array Slot} (hP : va_P G vwCl (w6 h0 a1 a2 a3 dA g0 b1 dB cn pp ss kk tn F) H) (hD : va_D (fun q : Nat => s.heap.size ≤ q) (w6 h0 a1 a2 a3 dA g0 b1 dB cn pp ss kk tn F)) (hS : va_S (fun q : Nat => s.heap.size ≤ q) s.heap H locs) (hl : lv_has ls 4 [(0, .ref b), (1, .ref h0), (2, .ref g0), (3, .int (zI ((i : Nat) : Int)))])
    (kx : ∀ (F : Nat → Bool) (cn : Nat) (pp ss kk : Nat → Nat) (tn : Nat) (H : Heap) (locs : List Loc) (ls : Array Slot), zInv F cn pp ss kk tn → va_P G vwCl (w6 h0 a1 a2 a3 dA g0 b1 dB cn pp ss kk tn F) H → va_D (fun q : Nat => s.heap.size ≤ q) (w6 h0 a1 a2 a3 dA g0 b1 dB cn pp ss kk tn F) → va_S (fun q : Nat => s.heap.size ≤ q) s.heap H locs → lv_has ls 4 [(0, .ref b), (1, .ref h0), (2, .ref g0), (3, .int (zI ((i : Nat) : Int)))] → W p l e room_1 s m #[Value.ref b] below meth c H locs cells slots Q (F0 m 414 ls [])) : W p l e room_1 s m #[Value.ref b] below meth c H locs cells slots Q (F0 m 283 ls []) := by
  have hA : ∀ q : Nat, s.heap.size ≤ q → (fun q : Nat => s.heap.size ≤ q) q := fun _ h => h
  have hbA : ¬ (fun q : Nat => s.heap.size ≤ q) b := Nat.not_le.mpr hbl
  have hF := zInv_ok hI
  refine lv_aload_n hx hb dL_law_283 rfl (lv_at hl 1 rfl) ?_
  have hPX := hP.sub (ws' := wX h0 a1 a2 a3 dA cn pp ss kk tn) [0, 1, 2, 3] rfl
  have hKX := hK.sub (tys' := [(dA, .int)]) [0] rfl
  have hPM := hP.sub (ws' := wM g0 b1 dB F) [4, 5] rfl
  have hKM := hK.sub (tys' := [(dB, .boolean)]) [1] rfl
  refine zc_ro (n := 0) (As := []) (rest := []) ⟨hx, hb, hml, hown, hts⟩ (metX0_freeBlocks l G hI ) (lw_V q108 q109 q110 q15 q111) ⟨rfl, rfl⟩ (by decide +kernel) ⟨Nat.le_of_ble_eq_true rfl, Nat.le_of_ble_eq_true rfl⟩ hKX hPX 0 0 rfl rfl rfl rfl rfl hl (Nat.le_of_ble_eq_true rfl) hcs dL_law_284 (fun r1 g1 => ?_)
  refine lv_aload_n hx hb dL_law_287 rfl (lv_at hl 2 rfl) ?_
  refine zc_ro (n := 0) (As := []) (rest := [.int r1]) ⟨hx, hb, hml, hown, hts⟩ (metX1_freeBlocks l G hF ) (lw_V q219 q220 q221 q16 q222) ⟨rfl, rfl⟩ (by decide +kernel) ⟨Nat.le_of_ble_eq_true rfl, Nat.le_of_ble_eq_true rfl⟩ hKM hPM 0 1 rfl rfl rfl rfl rfl hl (Nat.le_of_ble_eq_true rfl) hcs dL_law_288 (fun r2 g2 => ?_)
  subst g1
  subst g2
  refine lv_icmp_eq (tgt := 414) hx hb dL_law_291 (by decide) (fun _ => ?_) (fun h9 => absurd rfl h9)
  exact kx F cn pp ss kk tn H locs ls hI hP hD hS hl
set_option maxHeartbeats 4000000 in
set_option maxRecDepth 100000 in
theorem law_c8 {p : Program} {l : Launch} {e : Env} {s : State} {m : MethodId} {below : List Frame} {meth : Method} {c : Code} {cells slots : Nat} {Q : State → Prop} {G : va_G} {h0 a1 a2 a3 : Nat} {dA : ClassId} {g0 b1 : Nat} {dB : ClassId} {b L : Nat} {xs : Nat → Int32} (hx : p.tables.exec = Jvm.exec) (hb : c.code = cL_law) (hml : c.maxLocals = 4) (hown : s.vm.findClass R_law = some m.cls) (hts : ∀ w ∈ lw_all, w.before #[Value.ref b] s = true) (hX : va_X b L xs s s.heap) (hbl : b < s.heap.size) (hL : L ≤ 192) (hcs : cells ≤ 600000 ∧ slots ≤ 7290000) (hK : va_K G vwCl [(dA, .int), (dB, .boolean)] s) {F : Nat → Bool} {cn tn : Nat} {pp ss kk : Nat → Nat} (hI : zInv F cn pp ss kk tn) {i : Nat} (hi : i + 3 ≤ L) {H : Heap} {locs : List Loc} {ls : Array Slot} (hP : va_P G vwCl (w6 h0 a1 a2 a3 dA g0 b1 dB cn pp ss kk tn F) H) (hD : va_D (fun q : Nat => s.heap.size ≤ q) (w6 h0 a1 a2 a3 dA g0 b1 dB cn pp ss kk tn F)) (hS : va_S (fun q : Nat => s.heap.size ≤ q) s.heap H locs) (hl : lv_has ls 4 [(0, .ref b), (1, .ref h0), (2, .ref g0), (3, .int (zI ((i : Nat) : Int)))])
    (kx : ∀ (F : Nat → Bool) (cn : Nat) (pp ss kk : Nat → Nat) (tn : Nat) (H : Heap) (locs : List Loc) (ls : Array Slot), zInv F cn pp ss kk tn → va_P G vwCl (w6 h0 a1 a2 a3 dA g0 b1 dB cn pp ss kk tn F) H → va_D (fun q : Nat => s.heap.size ≤ q) (w6 h0 a1 a2 a3 dA g0 b1 dB cn pp ss kk tn F) → va_S (fun q : Nat => s.heap.size ≤ q) s.heap H locs → lv_has ls 4 [(0, .ref b), (1, .ref h0), (2, .ref g0), (3, .int (zI ((i : Nat) : Int)))] → W p l e room_1 s m #[Value.ref b] below meth c H locs cells slots Q (F0 m 414 ls [])) : W p l e room_1 s m #[Value.ref b] below meth c H locs cells slots Q (F0 m 296 ls []) := by
  have hA : ∀ q : Nat, s.heap.size ≤ q → (fun q : Nat => s.heap.size ≤ q) q := fun _ h => h
  have hbA : ¬ (fun q : Nat => s.heap.size ≤ q) b := Nat.not_le.mpr hbl
  have hF := zInv_ok hI
  refine lv_aload_n hx hb dL_law_296 rfl (lv_at hl 1 rfl) ?_
  have hPX := hP.sub (ws' := wX h0 a1 a2 a3 dA cn pp ss kk tn) [0, 1, 2, 3] rfl
  have hKX := hK.sub (tys' := [(dA, .int)]) [0] rfl
  have hPM := hP.sub (ws' := wM g0 b1 dB F) [4, 5] rfl
  have hKM := hK.sub (tys' := [(dB, .boolean)]) [1] rfl
  refine zc_ro (n := 0) (As := []) (rest := []) ⟨hx, hb, hml, hown, hts⟩ (metX0_extents l G hI ) (lw_V q112 q113 q114 q15 q115) ⟨rfl, rfl⟩ (by decide +kernel) ⟨Nat.le_of_ble_eq_true rfl, Nat.le_of_ble_eq_true rfl⟩ hKX hPX 0 0 rfl rfl rfl rfl rfl hl (Nat.le_of_ble_eq_true rfl) hcs dL_law_297 (fun r1 g1 => ?_)
  refine lv_aload_n hx hb dL_law_300 rfl (lv_at hl 2 rfl) ?_
  refine zc_ro (n := 0) (As := []) (rest := [.int r1]) ⟨hx, hb, hml, hown, hts⟩ (metX1_extents l G hF ) (lw_V q223 q188 q189 q16 q190) ⟨rfl, rfl⟩ (by decide +kernel) ⟨Nat.le_of_ble_eq_true rfl, Nat.le_of_ble_eq_true rfl⟩ hKM hPM 0 1 rfl rfl rfl rfl rfl hl (Nat.le_of_ble_eq_true rfl) hcs dL_law_301 (fun r2 g2 => ?_)
  subst g1
  subst g2
  refine lv_icmp_eq (tgt := 414) hx hb dL_law_304 (by decide) (fun _ => ?_) (fun h9 => absurd rfl h9)
  exact kx F cn pp ss kk tn H locs ls hI hP hD hS hl
set_option maxHeartbeats 4000000 in
set_option maxRecDepth 100000 in
theorem law_c9 {p : Program} {l : Launch} {e : Env} {s : State} {m : MethodId} {below : List Frame} {meth : Method} {c : Code} {cells slots : Nat} {Q : State → Prop} {G : va_G} {h0 a1 a2 a3 : Nat} {dA : ClassId} {g0 b1 : Nat} {dB : ClassId} {b L : Nat} {xs : Nat → Int32} (hx : p.tables.exec = Jvm.exec) (hb : c.code = cL_law) (hml : c.maxLocals = 4) (hown : s.vm.findClass R_law = some m.cls) (hts : ∀ w ∈ lw_all, w.before #[Value.ref b] s = true) (hX : va_X b L xs s s.heap) (hbl : b < s.heap.size) (hL : L ≤ 192) (hcs : cells ≤ 600000 ∧ slots ≤ 7290000) (hK : va_K G vwCl [(dA, .int), (dB, .boolean)] s) {F : Nat → Bool} {cn tn : Nat} {pp ss kk : Nat → Nat} (hI : zInv F cn pp ss kk tn) {i : Nat} (hi : i + 3 ≤ L) {H : Heap} {locs : List Loc} {ls : Array Slot} (hP : va_P G vwCl (w6 h0 a1 a2 a3 dA g0 b1 dB cn pp ss kk tn F) H) (hD : va_D (fun q : Nat => s.heap.size ≤ q) (w6 h0 a1 a2 a3 dA g0 b1 dB cn pp ss kk tn F)) (hS : va_S (fun q : Nat => s.heap.size ≤ q) s.heap H locs) (hl : lv_has ls 4 [(0, .ref b), (1, .ref h0), (2, .ref g0), (3, .int (zI ((i : Nat) : Int)))])
    (kx : ∀ (F : Nat → Bool) (cn : Nat) (pp ss kk : Nat → Nat) (tn : Nat) (H : Heap) (locs : List Loc) (ls : Array Slot), zInv F cn pp ss kk tn → va_P G vwCl (w6 h0 a1 a2 a3 dA g0 b1 dB cn pp ss kk tn F) H → va_D (fun q : Nat => s.heap.size ≤ q) (w6 h0 a1 a2 a3 dA g0 b1 dB cn pp ss kk tn F) → va_S (fun q : Nat => s.heap.size ≤ q) s.heap H locs → lv_has ls 4 [(0, .ref b), (1, .ref h0), (2, .ref g0), (3, .int (zI ((i : Nat) : Int)))] → W p l e room_1 s m #[Value.ref b] below meth c H locs cells slots Q (F0 m 414 ls [])) : W p l e room_1 s m #[Value.ref b] below meth c H locs cells slots Q (F0 m 309 ls []) := by
  have hA : ∀ q : Nat, s.heap.size ≤ q → (fun q : Nat => s.heap.size ≤ q) q := fun _ h => h
  have hbA : ¬ (fun q : Nat => s.heap.size ≤ q) b := Nat.not_le.mpr hbl
  have hF := zInv_ok hI
  refine lv_aload_n hx hb dL_law_309 rfl (lv_at hl 1 rfl) ?_
  have hPX := hP.sub (ws' := wX h0 a1 a2 a3 dA cn pp ss kk tn) [0, 1, 2, 3] rfl
  have hKX := hK.sub (tys' := [(dA, .int)]) [0] rfl
  have hPM := hP.sub (ws' := wM g0 b1 dB F) [4, 5] rfl
  have hKM := hK.sub (tys' := [(dB, .boolean)]) [1] rfl
  refine zc_ro (n := 0) (As := []) (rest := []) ⟨hx, hb, hml, hown, hts⟩ (metX0_largest l G hI ) (lw_V q116 q117 q118 q15 q119) ⟨rfl, rfl⟩ (by decide +kernel) ⟨Nat.le_of_ble_eq_true rfl, Nat.le_of_ble_eq_true rfl⟩ hKX hPX 0 0 rfl rfl rfl rfl rfl hl (Nat.le_of_ble_eq_true rfl) hcs dL_law_310 (fun r1 g1 => ?_)
  refine lv_aload_n hx hb dL_law_313 rfl (lv_at hl 2 rfl) ?_
  refine zc_ro (n := 0) (As := []) (rest := [.int r1]) ⟨hx, hb, hml, hown, hts⟩ (metX1_largest l G hF ) (lw_V q224 q208 q209 q16 q210) ⟨rfl, rfl⟩ (by decide +kernel) ⟨Nat.le_of_ble_eq_true rfl, Nat.le_of_ble_eq_true rfl⟩ hKM hPM 0 1 rfl rfl rfl rfl rfl hl (Nat.le_of_ble_eq_true rfl) hcs dL_law_314 (fun r2 g2 => ?_)
  obtain ⟨q1, rfl, hq1⟩ := g1
  obtain ⟨q2, rfl, hq3, hq2⟩ := g2
  have e1 := zsLargest_det hq1 hq2
  subst e1
  refine lv_icmp_eq (tgt := 414) hx hb dL_law_317 (by decide) (fun _ => ?_) (fun h9 => absurd rfl h9)
  exact kx F cn pp ss kk tn H locs ls hI hP hD hS hl
set_option maxHeartbeats 4000000 in
set_option maxRecDepth 100000 in
theorem law_c10 {p : Program} {l : Launch} {e : Env} {s : State} {m : MethodId} {below : List Frame} {meth : Method} {c : Code} {cells slots : Nat} {Q : State → Prop} {G : va_G} {h0 a1 a2 a3 : Nat} {dA : ClassId} {g0 b1 : Nat} {dB : ClassId} {b L : Nat} {xs : Nat → Int32} (hx : p.tables.exec = Jvm.exec) (hb : c.code = cL_law) (hml : c.maxLocals = 4) (hown : s.vm.findClass R_law = some m.cls) (hts : ∀ w ∈ lw_all, w.before #[Value.ref b] s = true) (hX : va_X b L xs s s.heap) (hbl : b < s.heap.size) (hL : L ≤ 192) (hcs : cells ≤ 600000 ∧ slots ≤ 7290000) (hK : va_K G vwCl [(dA, .int), (dB, .boolean)] s) {F : Nat → Bool} {cn tn : Nat} {pp ss kk : Nat → Nat} (hI : zInv F cn pp ss kk tn) {i : Nat} (hi : i + 3 ≤ L) {H : Heap} {locs : List Loc} {ls : Array Slot} (hP : va_P G vwCl (w6 h0 a1 a2 a3 dA g0 b1 dB cn pp ss kk tn F) H) (hD : va_D (fun q : Nat => s.heap.size ≤ q) (w6 h0 a1 a2 a3 dA g0 b1 dB cn pp ss kk tn F)) (hS : va_S (fun q : Nat => s.heap.size ≤ q) s.heap H locs) (hl : lv_has ls 4 [(0, .ref b), (1, .ref h0), (2, .ref g0), (3, .int (zI ((i : Nat) : Int)))])
    (kx : ∀ (F : Nat → Bool) (cn : Nat) (pp ss kk : Nat → Nat) (tn : Nat) (H : Heap) (locs : List Loc) (ls : Array Slot), zInv F cn pp ss kk tn → va_P G vwCl (w6 h0 a1 a2 a3 dA g0 b1 dB cn pp ss kk tn F) H → va_D (fun q : Nat => s.heap.size ≤ q) (w6 h0 a1 a2 a3 dA g0 b1 dB cn pp ss kk tn F) → va_S (fun q : Nat => s.heap.size ≤ q) s.heap H locs → lv_has ls 4 [(0, .ref b), (1, .ref h0), (2, .ref g0), (3, .int (zI ((i : Nat) : Int)))] → W p l e room_1 s m #[Value.ref b] below meth c H locs cells slots Q (F0 m 414 ls [])) : W p l e room_1 s m #[Value.ref b] below meth c H locs cells slots Q (F0 m 322 ls []) := by
  have hA : ∀ q : Nat, s.heap.size ≤ q → (fun q : Nat => s.heap.size ≤ q) q := fun _ h => h
  have hbA : ¬ (fun q : Nat => s.heap.size ≤ q) b := Nat.not_le.mpr hbl
  have hF := zInv_ok hI
  refine lv_aload_n hx hb dL_law_322 rfl (lv_at hl 1 rfl) ?_
  refine lv_aload_n hx hb dL_law_323 rfl (lv_at hl 0 rfl) ?_
  refine lv_iload_n hx hb dL_law_324 rfl (lv_at hl 3 rfl) ?_
  refine zr_iconstN 1 hx hb dL_law_325 rfl ?_
  refine zr_iaddN hx hb dL_law_326 ?_
  refine zr_sld hx hb hX hbl hbA hS (i + 1) rfl (by omega) (by omega) dL_law_327 ?_
  have hPX := hP.sub (ws' := wX h0 a1 a2 a3 dA cn pp ss kk tn) [0, 1, 2, 3] rfl
  have hKX := hK.sub (tys' := [(dA, .int)]) [0] rfl
  have hPM := hP.sub (ws' := wM g0 b1 dB F) [4, 5] rfl
  have hKM := hK.sub (tys' := [(dB, .boolean)]) [1] rfl
  refine zc_ro (n := 1) (As := [.int (zI ((xs (i + 1)).toInt))]) (rest := []) ⟨hx, hb, hml, hown, hts⟩ (metX0_next l G hI (zIn_of _)) (lw_V q120 q121 q122 q15 q123) ⟨rfl, rfl⟩ (by decide +kernel) ⟨Nat.le_of_ble_eq_true rfl, Nat.le_of_ble_eq_true rfl⟩ hKX hPX 0 0 rfl rfl rfl rfl rfl hl (Nat.le_of_ble_eq_true rfl) hcs dL_law_328 (fun r1 g1 => ?_)
  refine lv_aload_n hx hb dL_law_331 rfl (lv_at hl 2 rfl) ?_
  refine lv_aload_n hx hb dL_law_332 rfl (lv_at hl 0 rfl) ?_
  refine lv_iload_n hx hb dL_law_333 rfl (lv_at hl 3 rfl) ?_
  refine zr_iconstN 1 hx hb dL_law_334 rfl ?_
  refine zr_iaddN hx hb dL_law_335 ?_
  refine zr_sld hx hb hX hbl hbA hS (i + 1) rfl (by omega) (by omega) dL_law_336 ?_
  refine zc_ro (n := 1) (As := [.int (zI ((xs (i + 1)).toInt))]) (rest := [.int r1]) ⟨hx, hb, hml, hown, hts⟩ (metX1_next l G hF (zIn_of _)) (lw_V q225 q226 q227 q16 q228) ⟨rfl, rfl⟩ (by decide +kernel) ⟨Nat.le_of_ble_eq_true rfl, Nat.le_of_ble_eq_true rfl⟩ hKM hPM 0 1 rfl rfl rfl rfl rfl hl (Nat.le_of_ble_eq_true rfl) hcs dL_law_337 (fun r2 g2 => ?_)
  obtain ⟨q1, rfl, hq1⟩ := g1
  obtain ⟨q2, rfl, hq2⟩ := g2
  have e1 := zsNext_det hq1 hq2
  subst e1
  refine lv_icmp_eq (tgt := 414) hx hb dL_law_340 (by decide) (fun _ => ?_) (fun h9 => absurd rfl h9)
  exact kx F cn pp ss kk tn H locs ls hI hP hD hS hl
set_option maxHeartbeats 4000000 in
set_option maxRecDepth 100000 in
theorem law_c11 {p : Program} {l : Launch} {e : Env} {s : State} {m : MethodId} {below : List Frame} {meth : Method} {c : Code} {cells slots : Nat} {Q : State → Prop} {G : va_G} {h0 a1 a2 a3 : Nat} {dA : ClassId} {g0 b1 : Nat} {dB : ClassId} {b L : Nat} {xs : Nat → Int32} (hx : p.tables.exec = Jvm.exec) (hb : c.code = cL_law) (hml : c.maxLocals = 4) (hown : s.vm.findClass R_law = some m.cls) (hts : ∀ w ∈ lw_all, w.before #[Value.ref b] s = true) (hX : va_X b L xs s s.heap) (hbl : b < s.heap.size) (hL : L ≤ 192) (hcs : cells ≤ 600000 ∧ slots ≤ 7290000) (hK : va_K G vwCl [(dA, .int), (dB, .boolean)] s) {F : Nat → Bool} {cn tn : Nat} {pp ss kk : Nat → Nat} (hI : zInv F cn pp ss kk tn) {i : Nat} (hi : i + 3 ≤ L) {H : Heap} {locs : List Loc} {ls : Array Slot} (hP : va_P G vwCl (w6 h0 a1 a2 a3 dA g0 b1 dB cn pp ss kk tn F) H) (hD : va_D (fun q : Nat => s.heap.size ≤ q) (w6 h0 a1 a2 a3 dA g0 b1 dB cn pp ss kk tn F)) (hS : va_S (fun q : Nat => s.heap.size ≤ q) s.heap H locs) (hl : lv_has ls 4 [(0, .ref b), (1, .ref h0), (2, .ref g0), (3, .int (zI ((i : Nat) : Int)))])
    (kx : ∀ (F : Nat → Bool) (cn : Nat) (pp ss kk : Nat → Nat) (tn : Nat) (H : Heap) (locs : List Loc) (ls : Array Slot), zInv F cn pp ss kk tn → va_P G vwCl (w6 h0 a1 a2 a3 dA g0 b1 dB cn pp ss kk tn F) H → va_D (fun q : Nat => s.heap.size ≤ q) (w6 h0 a1 a2 a3 dA g0 b1 dB cn pp ss kk tn F) → va_S (fun q : Nat => s.heap.size ≤ q) s.heap H locs → lv_has ls 4 [(0, .ref b), (1, .ref h0), (2, .ref g0), (3, .int (zI ((i : Nat) : Int)))] → W p l e room_1 s m #[Value.ref b] below meth c H locs cells slots Q (F0 m 414 ls [])) : W p l e room_1 s m #[Value.ref b] below meth c H locs cells slots Q (F0 m 345 ls []) := by
  have hA : ∀ q : Nat, s.heap.size ≤ q → (fun q : Nat => s.heap.size ≤ q) q := fun _ h => h
  have hbA : ¬ (fun q : Nat => s.heap.size ≤ q) b := Nat.not_le.mpr hbl
  have hF := zInv_ok hI
  refine lv_aload_n hx hb dL_law_345 rfl (lv_at hl 1 rfl) ?_
  refine lv_aload_n hx hb dL_law_346 rfl (lv_at hl 0 rfl) ?_
  refine lv_iload_n hx hb dL_law_347 rfl (lv_at hl 3 rfl) ?_
  refine zr_iconstN 1 hx hb dL_law_348 rfl ?_
  refine zr_iaddN hx hb dL_law_349 ?_
  refine zr_sld hx hb hX hbl hbA hS (i + 1) rfl (by omega) (by omega) dL_law_350 ?_
  have hPX := hP.sub (ws' := wX h0 a1 a2 a3 dA cn pp ss kk tn) [0, 1, 2, 3] rfl
  have hKX := hK.sub (tys' := [(dA, .int)]) [0] rfl
  have hPM := hP.sub (ws' := wM g0 b1 dB F) [4, 5] rfl
  have hKM := hK.sub (tys' := [(dB, .boolean)]) [1] rfl
  refine zc_ro (n := 1) (As := [.int (zI ((xs (i + 1)).toInt))]) (rest := []) ⟨hx, hb, hml, hown, hts⟩ (metX0_sizeAt l G hI (zIn_of _)) (lw_V q124 q125 q126 q15 q127) ⟨rfl, rfl⟩ (by decide +kernel) ⟨Nat.le_of_ble_eq_true rfl, Nat.le_of_ble_eq_true rfl⟩ hKX hPX 0 0 rfl rfl rfl rfl rfl hl (Nat.le_of_ble_eq_true rfl) hcs dL_law_351 (fun r1 g1 => ?_)
  refine lv_aload_n hx hb dL_law_354 rfl (lv_at hl 2 rfl) ?_
  refine lv_aload_n hx hb dL_law_355 rfl (lv_at hl 0 rfl) ?_
  refine lv_iload_n hx hb dL_law_356 rfl (lv_at hl 3 rfl) ?_
  refine zr_iconstN 1 hx hb dL_law_357 rfl ?_
  refine zr_iaddN hx hb dL_law_358 ?_
  refine zr_sld hx hb hX hbl hbA hS (i + 1) rfl (by omega) (by omega) dL_law_359 ?_
  refine zc_ro (n := 1) (As := [.int (zI ((xs (i + 1)).toInt))]) (rest := [.int r1]) ⟨hx, hb, hml, hown, hts⟩ (metX1_sizeAt l G hF (zIn_of _)) (lw_V q229 q200 q201 q16 q202) ⟨rfl, rfl⟩ (by decide +kernel) ⟨Nat.le_of_ble_eq_true rfl, Nat.le_of_ble_eq_true rfl⟩ hKM hPM 0 1 rfl rfl rfl rfl rfl hl (Nat.le_of_ble_eq_true rfl) hcs dL_law_360 (fun r2 g2 => ?_)
  obtain ⟨q1, rfl, hq1⟩ := g1
  obtain ⟨q2, rfl, hq2⟩ := g2
  have e1 := zsSizeAt_det hq1 hq2
  subst e1
  refine lv_icmp_eq (tgt := 414) hx hb dL_law_363 (by decide) (fun _ => ?_) (fun h9 => absurd rfl h9)
  exact kx F cn pp ss kk tn H locs ls hI hP hD hS hl
set_option maxHeartbeats 4000000 in
set_option maxRecDepth 100000 in
theorem law_c12 {p : Program} {l : Launch} {e : Env} {s : State} {m : MethodId} {below : List Frame} {meth : Method} {c : Code} {cells slots : Nat} {Q : State → Prop} {G : va_G} {h0 a1 a2 a3 : Nat} {dA : ClassId} {g0 b1 : Nat} {dB : ClassId} {b L : Nat} {xs : Nat → Int32} (hx : p.tables.exec = Jvm.exec) (hb : c.code = cL_law) (hml : c.maxLocals = 4) (hown : s.vm.findClass R_law = some m.cls) (hts : ∀ w ∈ lw_all, w.before #[Value.ref b] s = true) (hX : va_X b L xs s s.heap) (hbl : b < s.heap.size) (hL : L ≤ 192) (hcs : cells ≤ 600000 ∧ slots ≤ 7290000) (hK : va_K G vwCl [(dA, .int), (dB, .boolean)] s) {F : Nat → Bool} {cn tn : Nat} {pp ss kk : Nat → Nat} (hI : zInv F cn pp ss kk tn) {i : Nat} (hi : i + 3 ≤ L) {H : Heap} {locs : List Loc} {ls : Array Slot} (hP : va_P G vwCl (w6 h0 a1 a2 a3 dA g0 b1 dB cn pp ss kk tn F) H) (hD : va_D (fun q : Nat => s.heap.size ≤ q) (w6 h0 a1 a2 a3 dA g0 b1 dB cn pp ss kk tn F)) (hS : va_S (fun q : Nat => s.heap.size ≤ q) s.heap H locs) (hl : lv_has ls 4 [(0, .ref b), (1, .ref h0), (2, .ref g0), (3, .int (zI ((i : Nat) : Int)))])
    (kx : ∀ (F : Nat → Bool) (cn : Nat) (pp ss kk : Nat → Nat) (tn : Nat) (H : Heap) (locs : List Loc) (ls : Array Slot), zInv F cn pp ss kk tn → va_P G vwCl (w6 h0 a1 a2 a3 dA g0 b1 dB cn pp ss kk tn F) H → va_D (fun q : Nat => s.heap.size ≤ q) (w6 h0 a1 a2 a3 dA g0 b1 dB cn pp ss kk tn F) → va_S (fun q : Nat => s.heap.size ≤ q) s.heap H locs → lv_has ls 4 [(0, .ref b), (1, .ref h0), (2, .ref g0), (3, .int (zI ((i : Nat) : Int)))] → W p l e room_1 s m #[Value.ref b] below meth c H locs cells slots Q (F0 m 414 ls [])) : W p l e room_1 s m #[Value.ref b] below meth c H locs cells slots Q (F0 m 368 ls []) := by
  have hA : ∀ q : Nat, s.heap.size ≤ q → (fun q : Nat => s.heap.size ≤ q) q := fun _ h => h
  have hbA : ¬ (fun q : Nat => s.heap.size ≤ q) b := Nat.not_le.mpr hbl
  have hF := zInv_ok hI
  refine lv_aload_n hx hb dL_law_368 rfl (lv_at hl 1 rfl) ?_
  refine lv_aload_n hx hb dL_law_369 rfl (lv_at hl 0 rfl) ?_
  refine lv_iload_n hx hb dL_law_370 rfl (lv_at hl 3 rfl) ?_
  refine zr_iconstN 1 hx hb dL_law_371 rfl ?_
  refine zr_iaddN hx hb dL_law_372 ?_
  refine zr_sld hx hb hX hbl hbA hS (i + 1) rfl (by omega) (by omega) dL_law_373 ?_
  have hPX := hP.sub (ws' := wX h0 a1 a2 a3 dA cn pp ss kk tn) [0, 1, 2, 3] rfl
  have hKX := hK.sub (tys' := [(dA, .int)]) [0] rfl
  have hPM := hP.sub (ws' := wM g0 b1 dB F) [4, 5] rfl
  have hKM := hK.sub (tys' := [(dB, .boolean)]) [1] rfl
  refine zc_ro (n := 1) (As := [.int (zI ((xs (i + 1)).toInt))]) (rest := []) ⟨hx, hb, hml, hown, hts⟩ (metX0_bySize l G hI (zIn_of _)) (lw_V q128 q129 q130 q15 q131) ⟨rfl, rfl⟩ (by decide +kernel) ⟨Nat.le_of_ble_eq_true rfl, Nat.le_of_ble_eq_true rfl⟩ hKX hPX 0 0 rfl rfl rfl rfl rfl hl (Nat.le_of_ble_eq_true rfl) hcs dL_law_374 (fun r1 g1 => ?_)
  refine lv_aload_n hx hb dL_law_377 rfl (lv_at hl 2 rfl) ?_
  refine lv_aload_n hx hb dL_law_378 rfl (lv_at hl 0 rfl) ?_
  refine lv_iload_n hx hb dL_law_379 rfl (lv_at hl 3 rfl) ?_
  refine zr_iconstN 1 hx hb dL_law_380 rfl ?_
  refine zr_iaddN hx hb dL_law_381 ?_
  refine zr_sld hx hb hX hbl hbA hS (i + 1) rfl (by omega) (by omega) dL_law_382 ?_
  refine zc_ro (n := 1) (As := [.int (zI ((xs (i + 1)).toInt))]) (rest := [.int r1]) ⟨hx, hb, hml, hown, hts⟩ (metX1_bySize l G hF (zIn_of _)) (lw_V q230 q231 q232 q16 q233) ⟨rfl, rfl⟩ (by decide +kernel) ⟨Nat.le_of_ble_eq_true rfl, Nat.le_of_ble_eq_true rfl⟩ hKM hPM 0 1 rfl rfl rfl rfl rfl hl (Nat.le_of_ble_eq_true rfl) hcs dL_law_383 (fun r2 g2 => ?_)
  obtain ⟨q1, rfl, hq1⟩ := g1
  obtain ⟨q2, rfl, hq2⟩ := g2
  have e1 := zsBySize_det hq1 hq2
  subst e1
  refine lv_icmp_eq (tgt := 414) hx hb dL_law_386 (by decide) (fun _ => ?_) (fun h9 => absurd rfl h9)
  exact kx F cn pp ss kk tn H locs ls hI hP hD hS hl
set_option maxHeartbeats 4000000 in
set_option maxRecDepth 100000 in
theorem law_c13 {p : Program} {l : Launch} {e : Env} {s : State} {m : MethodId} {below : List Frame} {meth : Method} {c : Code} {cells slots : Nat} {Q : State → Prop} {G : va_G} {h0 a1 a2 a3 : Nat} {dA : ClassId} {g0 b1 : Nat} {dB : ClassId} {b L : Nat} {xs : Nat → Int32} (hx : p.tables.exec = Jvm.exec) (hb : c.code = cL_law) (hml : c.maxLocals = 4) (hown : s.vm.findClass R_law = some m.cls) (hts : ∀ w ∈ lw_all, w.before #[Value.ref b] s = true) (hX : va_X b L xs s s.heap) (hbl : b < s.heap.size) (hL : L ≤ 192) (hcs : cells ≤ 600000 ∧ slots ≤ 7290000) (hK : va_K G vwCl [(dA, .int), (dB, .boolean)] s) {F : Nat → Bool} {cn tn : Nat} {pp ss kk : Nat → Nat} (hI : zInv F cn pp ss kk tn) {i : Nat} (hi : i + 3 ≤ L) {H : Heap} {locs : List Loc} {ls : Array Slot} (hP : va_P G vwCl (w6 h0 a1 a2 a3 dA g0 b1 dB cn pp ss kk tn F) H) (hD : va_D (fun q : Nat => s.heap.size ≤ q) (w6 h0 a1 a2 a3 dA g0 b1 dB cn pp ss kk tn F)) (hS : va_S (fun q : Nat => s.heap.size ≤ q) s.heap H locs) (hl : lv_has ls 4 [(0, .ref b), (1, .ref h0), (2, .ref g0), (3, .int (zI ((i : Nat) : Int)))])
    (kx : ∀ (F : Nat → Bool) (cn : Nat) (pp ss kk : Nat → Nat) (tn : Nat) (H : Heap) (locs : List Loc) (ls : Array Slot), zInv F cn pp ss kk tn → va_P G vwCl (w6 h0 a1 a2 a3 dA g0 b1 dB cn pp ss kk tn F) H → va_D (fun q : Nat => s.heap.size ≤ q) (w6 h0 a1 a2 a3 dA g0 b1 dB cn pp ss kk tn F) → va_S (fun q : Nat => s.heap.size ≤ q) s.heap H locs → lv_has ls 4 [(0, .ref b), (1, .ref h0), (2, .ref g0), (3, .int (zI ((i : Nat) : Int)))] → W p l e room_1 s m #[Value.ref b] below meth c H locs cells slots Q (F0 m 414 ls [])) : W p l e room_1 s m #[Value.ref b] below meth c H locs cells slots Q (F0 m 391 ls []) := by
  have hA : ∀ q : Nat, s.heap.size ≤ q → (fun q : Nat => s.heap.size ≤ q) q := fun _ h => h
  have hbA : ¬ (fun q : Nat => s.heap.size ≤ q) b := Nat.not_le.mpr hbl
  have hF := zInv_ok hI
  refine lv_aload_n hx hb dL_law_391 rfl (lv_at hl 1 rfl) ?_
  refine lv_aload_n hx hb dL_law_392 rfl (lv_at hl 0 rfl) ?_
  refine lv_iload_n hx hb dL_law_393 rfl (lv_at hl 3 rfl) ?_
  refine zr_iconstN 1 hx hb dL_law_394 rfl ?_
  refine zr_iaddN hx hb dL_law_395 ?_
  refine zr_sld hx hb hX hbl hbA hS (i + 1) rfl (by omega) (by omega) dL_law_396 ?_
  have hPX := hP.sub (ws' := wX h0 a1 a2 a3 dA cn pp ss kk tn) [0, 1, 2, 3] rfl
  have hKX := hK.sub (tys' := [(dA, .int)]) [0] rfl
  have hPM := hP.sub (ws' := wM g0 b1 dB F) [4, 5] rfl
  have hKM := hK.sub (tys' := [(dB, .boolean)]) [1] rfl
  refine zc_ro (n := 1) (As := [.int (zI ((xs (i + 1)).toInt))]) (rest := []) ⟨hx, hb, hml, hown, hts⟩ (metX0_atLeast l G hI (zIn_of _)) (lw_V q132 q133 q134 q15 q135) ⟨rfl, rfl⟩ (by decide +kernel) ⟨Nat.le_of_ble_eq_true rfl, Nat.le_of_ble_eq_true rfl⟩ hKX hPX 0 0 rfl rfl rfl rfl rfl hl (Nat.le_of_ble_eq_true rfl) hcs dL_law_397 (fun r1 g1 => ?_)
  refine lv_aload_n hx hb dL_law_400 rfl (lv_at hl 2 rfl) ?_
  refine lv_aload_n hx hb dL_law_401 rfl (lv_at hl 0 rfl) ?_
  refine lv_iload_n hx hb dL_law_402 rfl (lv_at hl 3 rfl) ?_
  refine zr_iconstN 1 hx hb dL_law_403 rfl ?_
  refine zr_iaddN hx hb dL_law_404 ?_
  refine zr_sld hx hb hX hbl hbA hS (i + 1) rfl (by omega) (by omega) dL_law_405 ?_
  refine zc_ro (n := 1) (As := [.int (zI ((xs (i + 1)).toInt))]) (rest := [.int r1]) ⟨hx, hb, hml, hown, hts⟩ (metX1_atLeast l G hF (zIn_of _)) (lw_V q234 q192 q193 q16 q194) ⟨rfl, rfl⟩ (by decide +kernel) ⟨Nat.le_of_ble_eq_true rfl, Nat.le_of_ble_eq_true rfl⟩ hKM hPM 0 1 rfl rfl rfl rfl rfl hl (Nat.le_of_ble_eq_true rfl) hcs dL_law_406 (fun r2 g2 => ?_)
  subst g1
  subst g2
  refine lv_icmp_eq (tgt := 414) hx hb dL_law_409 (by decide) (fun _ => ?_) (fun h9 => absurd rfl h9)
  exact kx F cn pp ss kk tn H locs ls hI hP hD hS hl
end
section
set_option maxHeartbeats 4000000 in
set_option maxRecDepth 100000 in
theorem law_loop {p : Program} {l : Launch} {e : Env} {s : State} {m : MethodId} {below : List Frame} {meth : Method} {c : Code} {G : va_G} {h0 a1 a2 a3 : Nat} {dA : ClassId} {g0 b1 : Nat} {dB : ClassId} {b L : Nat} {xs : Nat → Int32} (hL : L ≤ 192) (C0 : lw_At p s m meth c b L xs) (hK : va_K G vwCl [(dA, .int), (dB, .boolean)] s) :
    ∀ (d i : Nat) (F : Nat → Bool) (cn : Nat) (pp ss kk : Nat → Nat) (tn : Nat) (H : Heap) (locs : List Loc) (ls : Array Slot), L + 3 ≤ i + d → i ≤ L + 3 → zInv F cn pp ss kk tn → va_P G vwCl (w6 h0 a1 a2 a3 dA g0 b1 dB cn pp ss kk tn F) H → va_D (fun q : Nat => s.heap.size ≤ q) (w6 h0 a1 a2 a3 dA g0 b1 dB cn pp ss kk tn F) → va_S (fun q : Nat => s.heap.size ≤ q) s.heap H locs → lv_has ls 4 [(0, .ref b), (1, .ref h0), (2, .ref g0), (3, .int (zI ((i : Nat) : Int)))] → W p l e room_1 s m #[Value.ref b] below meth c H locs 6 652 (lw_Z below #[Value.ref b] s) (F0 m 18 ls []) := by
  obtain ⟨hx, hb, hr, hml, hown, hts0, hX, hbl, hlocks, hgv⟩ := C0
  have hts : ∀ w ∈ lw_all, w.before #[Value.ref b] s = true := fun w h => hts0 w (lw_all_tbl h)
  have hA : ∀ q : Nat, s.heap.size ≤ q → (fun q : Nat => s.heap.size ≤ q) q := fun _ h => h
  have hbA : ¬ (fun q : Nat => s.heap.size ≤ q) b := Nat.not_le.mpr hbl
  intro d
  induction d with
  | zero =>
    intro i F cn pp ss kk tn H locs ls h1 h2 hI hP hD hS hl
    refine lv_iload_n hx hb dL_law_18 rfl (lv_at hl 3 rfl) ?_
    refine lv_aload_n hx hb dL_law_19 rfl (lv_at hl 0 rfl) ?_
    refine va_slen hx hb hX hbl hbA hS dL_law_20 ?_
    refine W.eq (g2 := F0 m 21 ls [.int (zI ((L : Nat) : Int)), .int (zI ((i : Nat) : Int))]) (by rw [zI_nat]; rfl) ?_
    refine zr_iconstN 3 hx hb dL_law_21 rfl ?_
    refine zr_isub hx hb dL_law_22 ?_
    refine zr_icmp_gt (tgt := 420) hx hb dL_law_23 (by decide) (by omega) (fun c23 => ?_) (fun c23 => by exfalso; omega)
    refine lv_iconst (v := 1) hx hb dL_law_420 (by decide) ?_
    refine va_forget (fun q hq => hS.2.2 q hq) ?_
    refine W.widen (k := 600000) (n := 7290000) (Nat.le_of_ble_eq_true rfl) (Nat.le_of_ble_eq_true rfl) ?_
    exact lw_ret hx hb hr hlocks dL_law_421
  | succ d ih =>
    intro i F cn pp ss kk tn H locs ls h1 h2 hI hP hD hS hl
    refine lv_iload_n hx hb dL_law_18 rfl (lv_at hl 3 rfl) ?_
    refine lv_aload_n hx hb dL_law_19 rfl (lv_at hl 0 rfl) ?_
    refine va_slen hx hb hX hbl hbA hS dL_law_20 ?_
    refine W.eq (g2 := F0 m 21 ls [.int (zI ((L : Nat) : Int)), .int (zI ((i : Nat) : Int))]) (by rw [zI_nat]; rfl) ?_
    refine zr_iconstN 3 hx hb dL_law_21 rfl ?_
    refine zr_isub hx hb dL_law_22 ?_
    refine zr_icmp_gt (tgt := 420) hx hb dL_law_23 (by decide) (by omega) (fun c23 => ?_) (fun c23 => ?_)
    · refine lv_iconst (v := 1) hx hb dL_law_420 (by decide) ?_
      refine va_forget (fun q hq => hS.2.2 q hq) ?_
      refine W.widen (k := 600000) (n := 7290000) (Nat.le_of_ble_eq_true rfl) (Nat.le_of_ble_eq_true rfl) ?_
      exact lw_ret hx hb hr hlocks dL_law_421
    · have hi : i + 3 ≤ L := by omega
      have kx : ∀ (F : Nat → Bool) (cn : Nat) (pp ss kk : Nat → Nat) (tn : Nat) (H : Heap) (locs : List Loc) (ls : Array Slot), zInv F cn pp ss kk tn → va_P G vwCl (w6 h0 a1 a2 a3 dA g0 b1 dB cn pp ss kk tn F) H → va_D (fun q : Nat => s.heap.size ≤ q) (w6 h0 a1 a2 a3 dA g0 b1 dB cn pp ss kk tn F) → va_S (fun q : Nat => s.heap.size ≤ q) s.heap H locs → lv_has ls 4 [(0, .ref b), (1, .ref h0), (2, .ref g0), (3, .int (zI ((i : Nat) : Int)))] → W p l e room_1 s m #[Value.ref b] below meth c H locs 6 652 (lw_Z below #[Value.ref b] s) (F0 m 414 ls []) := by
        intro F cn pp ss kk tn H locs ls hI hP hD hS hl
        refine zr_iinc hx hb ((i + 3 : Nat) : Int) (lv' := [(3, .int (zI ((i + 3 : Nat) : Int))), (0, .ref b), (1, .ref h0), (2, .ref g0)]) dL_law_414 hl (k := 3) rfl (by omega) (by decide) rfl (fun ls hl => ?_)
        refine lv_goto (tgt := 18) hx hb dL_law_417 (by decide) ?_
        exact ih (i + 3) F cn pp ss kk tn H locs ls (by omega) (by omega) hI hP hD hS (lv_sub hl [1, 2, 3, 0] rfl)
      refine lv_aload_n hx hb dL_law_26 rfl (lv_at hl 0 rfl) ?_
      refine lv_iload_n hx hb dL_law_27 rfl (lv_at hl 3 rfl) ?_
      refine zr_sld hx hb hX hbl hbA hS i rfl (by omega) (by omega) dL_law_28 ?_
      refine zr_bipush ((15 : Nat) : Int) hx hb dL_law_29 (by decide) ?_
      refine lv_iand hx hb dL_law_31 ?_
      obtain ⟨j, hj, ej⟩ := pk_andE (zI (xs i).toInt) (m := zI ((15 : Nat) : Int)) 4 (by decide)
      rw [ej]
      have hj : j < 16 := hj
      have hs : j = 0 ∨ j = 1 ∨ j = 2 ∨ j = 3 ∨ j = 4 ∨ j = 5 ∨ j = 6 ∨ j = 7 ∨ j = 8 ∨ j = 9 ∨ j = 10 ∨ j = 11 ∨ j = 12 ∨ j = 13 ∨ j = 14 ∨ j = 15 := by omega
      rcases hs with rfl | rfl | rfl | rfl | rfl | rfl | rfl | rfl | rfl | rfl | rfl | rfl | rfl | rfl | rfl | rfl
      · refine lv_tableIn (off := 72) (tgt := 104) hx hb dL_law_32 (by decide) (by decide) (by decide) (by decide) ?_
        exact law_c0 hx hb hml hown hts hX hbl hL ⟨Nat.le_of_ble_eq_true rfl, Nat.le_of_ble_eq_true rfl⟩ hK hI hi hP hD hS hl kx
      · refine lv_tableIn (off := 95) (tgt := 127) hx hb dL_law_32 (by decide) (by decide) (by decide) (by decide) ?_
        exact law_c1 hx hb hml hown hts hX hbl hL ⟨Nat.le_of_ble_eq_true rfl, Nat.le_of_ble_eq_true rfl⟩ hK hI hi hP hD hS hl kx
      · refine lv_tableIn (off := 128) (tgt := 160) hx hb dL_law_32 (by decide) (by decide) (by decide) (by decide) ?_
        exact law_c2 hx hb hml hown hts hX hbl hL ⟨Nat.le_of_ble_eq_true rfl, Nat.le_of_ble_eq_true rfl⟩ hK hI hi hP hD hS hl kx
      · refine lv_tableIn (off := 161) (tgt := 193) hx hb dL_law_32 (by decide) (by decide) (by decide) (by decide) ?_
        exact law_c3 hx hb hml hown hts hX hbl hL ⟨Nat.le_of_ble_eq_true rfl, Nat.le_of_ble_eq_true rfl⟩ hK hI hi hP hD hS hl kx
      · refine lv_tableIn (off := 194) (tgt := 226) hx hb dL_law_32 (by decide) (by decide) (by decide) (by decide) ?_
        exact law_c4 hx hb hml hown hts hX hbl hL ⟨Nat.le_of_ble_eq_true rfl, Nat.le_of_ble_eq_true rfl⟩ hK hI hi hP hD hS hl kx
      · refine lv_tableIn (off := 217) (tgt := 249) hx hb dL_law_32 (by decide) (by decide) (by decide) (by decide) ?_
        exact law_c5 hx hb hml hown hts hX hbl hL ⟨Nat.le_of_ble_eq_true rfl, Nat.le_of_ble_eq_true rfl⟩ hK hI hi hP hD hS hl kx
      · refine lv_tableIn (off := 228) (tgt := 260) hx hb dL_law_32 (by decide) (by decide) (by decide) (by decide) ?_
        exact law_c6 hx hb hml hown hts hX hbl hL ⟨Nat.le_of_ble_eq_true rfl, Nat.le_of_ble_eq_true rfl⟩ hK hI hi hP hD hS hl kx
      · refine lv_tableIn (off := 251) (tgt := 283) hx hb dL_law_32 (by decide) (by decide) (by decide) (by decide) ?_
        exact law_c7 hx hb hml hown hts hX hbl hL ⟨Nat.le_of_ble_eq_true rfl, Nat.le_of_ble_eq_true rfl⟩ hK hI hi hP hD hS hl kx
      · refine lv_tableIn (off := 264) (tgt := 296) hx hb dL_law_32 (by decide) (by decide) (by decide) (by decide) ?_
        exact law_c8 hx hb hml hown hts hX hbl hL ⟨Nat.le_of_ble_eq_true rfl, Nat.le_of_ble_eq_true rfl⟩ hK hI hi hP hD hS hl kx
      · refine lv_tableIn (off := 277) (tgt := 309) hx hb dL_law_32 (by decide) (by decide) (by decide) (by decide) ?_
        exact law_c9 hx hb hml hown hts hX hbl hL ⟨Nat.le_of_ble_eq_true rfl, Nat.le_of_ble_eq_true rfl⟩ hK hI hi hP hD hS hl kx
      · refine lv_tableIn (off := 290) (tgt := 322) hx hb dL_law_32 (by decide) (by decide) (by decide) (by decide) ?_
        exact law_c10 hx hb hml hown hts hX hbl hL ⟨Nat.le_of_ble_eq_true rfl, Nat.le_of_ble_eq_true rfl⟩ hK hI hi hP hD hS hl kx
      · refine lv_tableIn (off := 313) (tgt := 345) hx hb dL_law_32 (by decide) (by decide) (by decide) (by decide) ?_
        exact law_c11 hx hb hml hown hts hX hbl hL ⟨Nat.le_of_ble_eq_true rfl, Nat.le_of_ble_eq_true rfl⟩ hK hI hi hP hD hS hl kx
      · refine lv_tableIn (off := 336) (tgt := 368) hx hb dL_law_32 (by decide) (by decide) (by decide) (by decide) ?_
        exact law_c12 hx hb hml hown hts hX hbl hL ⟨Nat.le_of_ble_eq_true rfl, Nat.le_of_ble_eq_true rfl⟩ hK hI hi hP hD hS hl kx
      · refine lv_tableIn (off := 359) (tgt := 391) hx hb dL_law_32 (by decide) (by decide) (by decide) (by decide) ?_
        exact law_c13 hx hb hml hown hts hX hbl hL ⟨Nat.le_of_ble_eq_true rfl, Nat.le_of_ble_eq_true rfl⟩ hK hI hi hP hD hS hl kx
      · refine lv_tableOut (tgt := 414) hx hb dL_law_32 (by decide) (by decide) ?_
        exact kx F cn pp ss kk tn H locs ls hI hP hD hS hl
      · refine lv_tableOut (tgt := 414) hx hb dL_law_32 (by decide) (by decide) ?_
        exact kx F cn pp ss kk tn H locs ls hI hP hD hS hl
set_option maxHeartbeats 4000000 in
set_option maxRecDepth 100000 in
/-- from the entry, for every script of at most 192 ints, the law comes to its end with true -/
theorem whole_start {p : Program} {e : Env} {s : State} {m : MethodId} {below : List Frame} {meth : Method} {c : Code} (l : Launch) {b L : Nat} {xs : Nat → Int32} (hL : L ≤ 192) (C0 : lw_At p s m meth c b L xs) : W p l e room_1 s m #[Value.ref b] below meth c s.heap [] 0 0 (lw_Z below #[Value.ref b] s) (entryFrame m ([Value.ref b] : List Value).toArray 4) := by
  obtain ⟨hx, hb, hr, hml, hown, hts0, hX, hbl, hlocks, hgv⟩ := id C0
  have hts : ∀ w ∈ lw_all, w.before #[Value.ref b] s = true := fun w h => hts0 w (lw_all_tbl h)
  have hA : ∀ q : Nat, s.heap.size ≤ q → (fun q : Nat => s.heap.size ≤ q) q := fun _ h => h
  obtain ⟨c0_, iS0, hKn0⟩ := u_known (C := RX0) (T := TX0) (N := 5) (n := 5) hts0 (fun w h => lw_all_tbl (in_X0 w h)) (hts _ q18)
  obtain ⟨c1_, iS1, hKn1⟩ := u_known (C := RX1) (T := TX1) (N := 1) (n := 1) hts0 (fun w h => lw_all_tbl (in_X1 w h)) (hts _ q137)
  obtain ⟨G, hKc⟩ : ∃ G : va_G, ∀ (k : Nat) (q : vw_C), vwCl[k]? = some q → u_Kn s q.1 q.2.1 q.2.2 (G.1 k) (G.2 k) := by
    refine ⟨(fun k => if k = 0 then c0_ else c1_, fun k => if k = 0 then iS0 else iS1), ?_⟩
    intro k q hq
    match k, hq with
    | 0, hq => cases hq; exact hKn0
    | 1, hq => cases hq; exact hKn1
    | k + 2, hq => simp [vwCl] at hq
  have hS : va_S (fun q : Nat => s.heap.size ≤ q) s.heap s.heap [] := va_S.rf
  have hK : va_K G vwCl [] s := ⟨hKc, fun k q h => by simp at h⟩
  have hP : va_P G vwCl [] s.heap := fun k q h => by simp at h
  have hD : va_D (fun q : Nat => s.heap.size ≤ q) [] := ⟨fun i j p q h => by simp at h, fun k q h => by simp at h⟩
  have hl := lv_entry ([.ref b]) (n := 4) (Nat.le_of_ble_eq_true rfl)
  rw [lg_entry_eq]
  generalize (lg_sl ([.ref b]) ++ List.replicate (4 - (lg_sl ([.ref b])).length) Slot.unset).toArray = ls at hl ⊢
  have hl : lv_has ls 4 [(0, .ref b)] := hl
  refine va_new (D := G) (cl := vwCl) (ci := 0) (fs := [.int (zI ((0 : Nat) : Int)), .null, .null, .null, .int (zI ((0 : Nat) : Int))]) (C := RX0) (T := TX0) (N := 5) hx hb hts in_X0 tyX0 tyX0_ok hown (hts _ q17) (hts _ q18) (hts _ q15) hK hP hD hS hA rfl (fun j hj => by rcases (show j = 0 ∨ j = 1 ∨ j = 2 ∨ j = 3 ∨ j = 4 by omega) with rfl | rfl | rfl | rfl | rfl <;> rfl) (Nat.le_of_ble_eq_true rfl) (Nat.le_of_ble_eq_true rfl) dL_law_0 (fun h0 H hP hD hS => ?_)
  have hP : va_P G vwCl (zW0 h0) H := hP
  have hD : va_D (fun q : Nat => s.heap.size ≤ q) (zW0 h0) := hD
  refine lv_dup hx hb dL_law_3 rfl ?_
  have hFc := z_free hD hS hA
  refine va_callv (va_runI (n := 0) (As := []) (rest := [.ref h0]) ⟨hx, hb, hml, hown, hts⟩ (metX0_init l G H.size) (cwI 0 hts (lw_meth q21) rfl rfl rfl (hts _ q15) (hts _ q19) (hts _ q20) rfl (by decide +kernel) ⟨Nat.le_of_ble_eq_true rfl, Nat.le_of_ble_eq_true rfl⟩) ⟨fun a U g mk q => ⟨q.1, q.2.1, q.2.2.1, va_K.moved (u := U) (U := U.calling g mk a) (Vm.Alike.refl U.vm) q.2.2.2.1, q.2.2.2.2⟩, fun U hU hW => ⟨rfl, by rw [hU], by rw [hU]; exact hP, va_K.moved hW.alike hK, hD.weaken (fun _ _ _ _ => trivial)⟩⟩ rfl rfl hl.1 rfl (lv_room (Nat.le_of_ble_eq_true rfl)) dL_law_4 ⟨Nat.le_of_ble_eq_true rfl, Nat.le_of_ble_eq_true rfl⟩) hS (fun q _ h => hFc q h) hFc (fun u t H1 locs ht hvm hw1 hB hz1 hk1 hS => ?_)
  obtain ⟨a1, a2, a3, dA, c1, p1, s1, k1, t1⟩ := u
  obtain ⟨hP1, hK1, hD1⟩ := hB
  rw [ht] at hP1
  have hK1 := va_K.moved hvm.symm hK1
  have hP : va_P G vwCl (wX h0 a1 a2 a3 dA c1 p1 s1 k1 t1) H1 := hP1
  have hD : va_D (fun q : Nat => s.heap.size ≤ q) (wX h0 a1 a2 a3 dA c1 p1 s1 k1 t1) := hD1.weaken (fun k q _ h => hFc q.1 h)
  have hK : va_K G vwCl [(dA, .int)] s := hK1
  have hI : zInv zF0 c1 p1 s1 k1 t1 := hw1
  generalize H1 = H at hP hS ⊢
  refine lv_astore_n (lv' := [(1, .ref h0), (0, .ref b)]) hx hb dL_law_7 rfl hl (by decide) rfl (fun ls hl => ?_)
  refine va_new (D := G) (cl := vwCl) (ci := 1) (fs := [.null]) (C := RX1) (T := TX1) (N := 1) hx hb hts in_X1 tyX1 tyX1_ok hown (hts _ q136) (hts _ q137) (hts _ q16) hK hP hD hS hA rfl (fun j hj => by rcases (show j = 0 by omega) with rfl <;> rfl) (Nat.le_of_ble_eq_true rfl) (Nat.le_of_ble_eq_true rfl) dL_law_8 (fun g0 H hP hD hS => ?_)
  have hP : va_P G vwCl (wX h0 a1 a2 a3 dA c1 p1 s1 k1 t1 ++ zV0 g0) H := hP
  have hD : va_D (fun q : Nat => s.heap.size ≤ q) (wX h0 a1 a2 a3 dA c1 p1 s1 k1 t1 ++ zV0 g0) := hD
  refine lv_dup hx hb dL_law_11 rfl ?_
  have hPc := hP.sub (ws' := zV0 g0) [4] rfl
  have hDc := hD.sub (ws' := zV0 g0) [4] (by decide) rfl
  have hKc := hK.sub (tys' := []) [] rfl
  have hFc := z_free hDc hS hA
  refine va_callv (va_runI (n := 0) (As := []) (rest := [.ref g0]) ⟨hx, hb, hml, hown, hts⟩ (metX1_init l G H.size) (cwI 0 hts (lw_meth q140) rfl rfl rfl (hts _ q16) (hts _ q138) (hts _ q139) rfl (by decide +kernel) ⟨Nat.le_of_ble_eq_true rfl, Nat.le_of_ble_eq_true rfl⟩) ⟨fun a U g mk q => ⟨q.1, q.2.1, q.2.2.1, va_K.moved (u := U) (U := U.calling g mk a) (Vm.Alike.refl U.vm) q.2.2.2.1, q.2.2.2.2⟩, fun U hU hW => ⟨rfl, by rw [hU], by rw [hU]; exact hPc, va_K.moved hW.alike hKc, hDc.weaken (fun _ _ _ _ => trivial)⟩⟩ rfl rfl hl.1 rfl (lv_room (Nat.le_of_ble_eq_true rfl)) dL_law_12 ⟨Nat.le_of_ble_eq_true rfl, Nat.le_of_ble_eq_true rfl⟩) hS (fun q _ h => hFc q h) hFc (fun u t H1 locs ht hvm hw1 hB hz1 hk1 hS => ?_)
  obtain ⟨b1, dB⟩ := u
  obtain ⟨hP1, hK1, hD1⟩ := hB
  rw [ht] at hP1
  have hK1 := va_K.moved hvm.symm hK1
  obtain ⟨hP, hD⟩ := va_join (wr := wX h0 a1 a2 a3 dA c1 p1 s1 k1 t1) (w1 := wM g0 b1 dB zF0) hP hD [4] [0, 1, 2, 3] rfl rfl (by decide) (by decide) hk1 hFc hP1 hD1
  have hK : va_K G vwCl [(dA, .int), (dB, .boolean)] s := hK.app hK1
  generalize H1 = H at hP hS ⊢
  have hP : va_P G vwCl (w6 h0 a1 a2 a3 dA g0 b1 dB c1 p1 s1 k1 t1 zF0) H := hP
  have hD : va_D (fun q : Nat => s.heap.size ≤ q) (w6 h0 a1 a2 a3 dA g0 b1 dB c1 p1 s1 k1 t1 zF0) := hD
  refine lv_astore_n (lv' := [(2, .ref g0), (1, .ref h0), (0, .ref b)]) hx hb dL_law_15 rfl hl (by decide) rfl (fun ls hl => ?_)
  refine zr_iconstN 0 hx hb dL_law_16 rfl ?_
  refine lv_istore_n (lv' := [(3, .int (zI ((0 : Nat) : Int))), (2, .ref g0), (1, .ref h0), (0, .ref b)]) hx hb dL_law_17 rfl hl (by decide) rfl (fun ls hl => ?_)
  refine W.widen (k := 6) (n := 652) (Nat.le_of_ble_eq_true rfl) (Nat.le_of_ble_eq_true rfl) ?_
  exact law_loop hL C0 hK (L + 3) 0 zF0 c1 p1 s1 k1 t1 H locs ls (by omega) (by omega) hI hP hD hS (lv_sub hl [3, 2, 1, 0] rfl)
-- ===== YOUR PART ENDS =====
set_option maxHeartbeats 4000000 in
theorem lw_walk (l : Launch) (b : Addr) (xs : List Int32) : MetFree l x (headSpec (Jvm.Cond.code x code maxLocals ret :: tables_1) room_1) (lw_P b xs) (fun _ _ _ _ _ => True) lw_Q := by
  refine MetFree.of_bodyS (code := code) (maxLocals := maxLocals) (ret := ret) (by decide) ?_ ?_
  · intro args s m h hn
    obtain ⟨meth, c, h1, h2, h3, h4, h5, h6, -, -⟩ := Cond.code_spec hn (atoms_spec (ws := Jvm.Cond.code x code maxLocals ret :: tables_1) h _ List.mem_cons_self)
    exact ⟨meth, c, h1, h2, h3, h4, h5, h6⟩
  · intro p e s m args below meth c s₁ B hml0 hP _
    obtain ⟨rfl, hx, hbd, hgv⟩ := hP
    obtain ⟨scr, harrAt, hlist, hof, hsmall⟩ := hx
    obtain ⟨hcb, hkn, -, -⟩ := State.arrayAt?_spec harrAt
    have hown : s.vm.findClass R_law = some m.cls := findClass_of_methodNamed B.named
    have hts0 : ∀ c ∈ (Jvm.Cond.code x code maxLocals ret :: tables_1), c.before #[Value.ref b] s = true := atoms_spec (ws := Jvm.Cond.code x code maxLocals ret :: tables_1) B.pre
    have hts : ∀ w ∈ lw_tbl, w.before #[Value.ref b] s = true := k2_hts_sels lw_privs (fun w hw => hts0 w (List.mem_cons_of_mem _ hw)) lw_privs_ok
    have hml : c.maxLocals = 4 := B.maxLocals_eq (hts0 _ List.mem_cons_self)
    have X₀ : Stand p l e room_1 s m #[Value.ref b] below meth c s₁ [] 0 0 := Stand.of_body B
    have hh0 : s₁.heap = s.heap := by rw [B.state]; rfl
    have hsz : scr.slots.size = xs.length := by rw [← Array.length_toList, hlist, List.length_map]
    have hval : ∀ j : Nat, j < xs.length → scr.slots[j]? = some (.int (xs.getD j 0)) := fun j hj => by
      rw [← Array.getElem?_toList, hlist]
      simp [hj]
    have hbl : b < s.heap.size := (Array.getElem?_eq_some_iff.mp hcb).1
    have hX : va_X b xs.length (fun j => xs.getD j 0) s s.heap := ⟨scr, hcb, hof, hkn, hsz, hval⟩
    have K : W p l e room_1 s m #[Value.ref b] below meth c s₁.heap [] 0 0 (lw_Z below #[Value.ref b] s) (entryFrame m ([Value.ref b] : List Value).toArray 4) := by
      rw [hh0]
      exact whole_start l hbd ⟨B.exec, B.bytes, B.returns, hml, hown, hts, hX, hbl, B.notSynchronized, hgv⟩
    obtain ⟨t, a1, o, b1, b2, b3⟩ := K s₁ rfl X₀
    exact ⟨t, o, a1, b1, b2, b3⟩
theorem lw_pre_spec {args : Array Value} {s : State} (h : (Jvm.Cond.and given_1 narrow_1).before args s = true) (hr : rest_1_c.before args s = true) : ∃ (b : Addr) (xs : List Int32), lw_P b xs args s := by
  have hs := flat_of_before _ h
  have hq := flat_of_before _ hr
  have hc : (Cond.count 1).before args s = true := hs _ (by decide +kernel)
  have harr : (Cond.arrayOf (.arg 0) .int).before args s = true := hs _ (by decide +kernel)
  have hle : (Cond.le (.length (.arg 0)) (.int 192)).before args s = true := hs _ (by decide +kernel)
  have hlen : (Cond.isInt (.length (.arg 0))).before args s = true := hq _ (by decide +kernel)
  have hall : (Cond.all (.arg 0) (.isInt (.elem (.arg 0) (.index 0)))).before args s = true := hq _ (by decide +kernel)
  obtain ⟨b, xs, hb, hx⟩ := State.ints_of_pre rfl harr hlen hall
  have hsm : xs.length < 2 ^ 31 := hx.choose_spec.2.2.2
  have hev : (Term.length (.arg 0)).eval args s none [] s = some (.int xs.length.toInt32) := hx.length_eval hb
  have hv := Cond.le_ints hev (show (Term.int 192).eval args s none [] s = some (.int 192) from rfl)
  have hd : xs.length.toInt32 ≤ 192 := by
    simpa [Cond.before, Cond.holds, hv] using hle
  have hN : xs.length ≤ 192 := (Int32.ofNat_le_ofNat hsm (by decide)).mp (show Int32.ofNat xs.length ≤ Int32.ofNat 192 from hd)
  exact ⟨b, xs, Cond.one_arg hc (show args[0]? = some (.ref b) from hb), hx, hN, h⟩
theorem lw_comes (l : Launch) : Comes l x (Jvm.Cond.code x code maxLocals ret :: tables_1) room_1 (fun tb e args s => Calls_1 tb e args s ∧ rest_1 tb e args s ∧ Pre_1 tb e args s)
    (fun _ _ args s o t => lw_Q args s o t) := by
  intro p e ha hc hk s m args below hf hfit hheap happ hpre
  obtain ⟨b, xs, hP⟩ := lw_pre_spec hpre.2.2 hpre.2.1
  obtain ⟨k, o, h1, h2, h3, hQ⟩ := lw_walk l b xs p e ha hc hk s m args below hf ((Spec.applies_iff_loose hf).mp happ).1 hP trivial
  exact ⟨k, o, h1, h2, h3, hQ⟩
theorem lw_frame {s t : State} {o : Outcome} {args : Array Value} (h : Framed s o t [] 600000 7290000) :
    Framed s o t (fieldLocs frame_1_writes args s ++ arrayLocs frame_1_arrays args s ++ staticLocs frame_1_statics s) 600000 7290000 := h
theorem lw_limb (L : Cond) (hL : ∀ (args : Array Value) (s t : State), L.after args s (.returned (some (.int 1))) t = true) :
    ArmFor flags0 classFile x code maxLocals ret World_1 tables_1 room_1 Calls_1 rest_1 Pre_1
      (fun tb e a s o t => postC L tb e a s o t ∧ Framed s o t (fieldLocs frame_1_writes a s ++ arrayLocs frame_1_arrays a s ++ staticLocs frame_1_statics s) 600000 7290000) := by
  intro l _ _ _ p e ha hc hk s m args below hf hfit hheap happ hpre
  obtain ⟨k, o, h1, h2, h3, rfl, hF⟩ := lw_comes l p e ha hc hk s m args below hf hfit hheap happ hpre
  exact ⟨k, _, h1, h2, h3, hL args s _, lw_frame hF⟩
theorem i_vc : Claimed_1_1 ∧ Claimed_1_2 := ⟨lw_limb limb_1_1 (fun args s t => by simp [limb_1_1, Cond.after, Cond.holds, Cond.value]), lw_limb limb_1_2 (fun args s t => Cond.after_iff.mpr (by
  first | (rw [show limb_1_2 = Cond.eq .result (.int 1) from rfl, Cond.eq_ints (x := 1) (y := 1) rfl rfl]; simp; done) | (simp [limb_1_2, Cond.value, Term.eval]; done)))⟩
end
