section
-- ===== PART A: goes FIRST, ahead of the names: the tables' words, and 'selects' of the private methods out of them =====
/-- a private method of a class that the tables say can be made, by its rows of tables_1 -/
def lw_okq (q : MethodName × Nat) : Prop := (q.1.cls ≠ "java/lang/invoke/MethodHandle" ∧ q.1.cls ≠ "java/lang/invoke/VarHandle") ∧ Cond.instantiable q.1.cls q.2 ∈ tables_1 ∧ Cond.privateMethod q.1 ∈ tables_1 ∧ Cond.instanceMethod q.1 ∈ tables_1
set_option maxRecDepth 100000
theorem lw_t1 {w : Cond} (h : w ∈ tables_1_1) : w ∈ tables_1 := List.mem_append_left _ h
theorem lw_t2 {w : Cond} (h : w ∈ tables_1_2) : w ∈ tables_1 := List.mem_append_right _ h
theorem lw_p0 : lw_okq (⟨"SpeedRows", "reached", "(II)I"⟩, 9) := ⟨⟨by decide +kernel, by decide +kernel⟩, lw_t1 (List.mem_of_getElem? (i := 8) rfl), lw_t1 (List.mem_of_getElem? (i := 130) rfl), lw_t1 (List.mem_of_getElem? (i := 131) rfl)⟩
theorem lw_p1 : lw_okq (⟨"SpeedRows", "isCorner", "(I)Z"⟩, 9) := ⟨⟨by decide +kernel, by decide +kernel⟩, lw_t1 (List.mem_of_getElem? (i := 8) rfl), lw_t1 (List.mem_of_getElem? (i := 150) rfl), lw_t1 (List.mem_of_getElem? (i := 151) rfl)⟩
theorem lw_p2 : lw_okq (⟨"SpeedRows", "fall", "()V"⟩, 9) := ⟨⟨by decide +kernel, by decide +kernel⟩, lw_t1 (List.mem_of_getElem? (i := 8) rfl), lw_t1 (List.mem_of_getElem? (i := 158) rfl), lw_t1 (List.mem_of_getElem? (i := 159) rfl)⟩
theorem lw_p3 : lw_okq (⟨"SpeedRowsModel", "know", "()V"⟩, 10) := ⟨⟨by decide +kernel, by decide +kernel⟩, lw_t1 (List.mem_of_getElem? (i := 171) rfl), lw_t2 (List.mem_of_getElem? (i := 7) rfl), lw_t2 (List.mem_of_getElem? (i := 8) rfl)⟩
theorem lw_p4 : lw_okq (⟨"SpeedRowsModel", "reach", "(II)I"⟩, 10) := ⟨⟨by decide +kernel, by decide +kernel⟩, lw_t1 (List.mem_of_getElem? (i := 171) rfl), lw_t2 (List.mem_of_getElem? (i := 12) rfl), lw_t2 (List.mem_of_getElem? (i := 13) rfl)⟩
theorem lw_p5 : lw_okq (⟨"SpeedRowsModel", "lowered", "(II)Z"⟩, 10) := ⟨⟨by decide +kernel, by decide +kernel⟩, lw_t1 (List.mem_of_getElem? (i := 171) rfl), lw_t2 (List.mem_of_getElem? (i := 21) rfl), lw_t2 (List.mem_of_getElem? (i := 22) rfl)⟩
def lw_privs_1 : List (MethodName × Nat) := [(⟨"SpeedRows", "reached", "(II)I"⟩, 9), (⟨"SpeedRows", "isCorner", "(I)Z"⟩, 9), (⟨"SpeedRows", "fall", "()V"⟩, 9), (⟨"SpeedRowsModel", "know", "()V"⟩, 10), (⟨"SpeedRowsModel", "reach", "(II)I"⟩, 10), (⟨"SpeedRowsModel", "lowered", "(II)Z"⟩, 10)]
theorem lw_r1 : ∀ q ∈ lw_privs_1, lw_okq q := List.forall_mem_cons.mpr ⟨lw_p0, List.forall_mem_cons.mpr ⟨lw_p1, List.forall_mem_cons.mpr ⟨lw_p2, List.forall_mem_cons.mpr ⟨lw_p3, List.forall_mem_cons.mpr ⟨lw_p4, List.forall_mem_cons.mpr ⟨lw_p5, fun _ h => absurd h List.not_mem_nil⟩⟩⟩⟩⟩⟩
def lw_privs : List (MethodName × Nat) := lw_privs_1
def lw_tbl : List Cond := k2_sels lw_privs ++ tables_1
theorem lw_privs_ok : ∀ q ∈ lw_privs, lw_okq q := lw_r1
-- ===== ONE list of words for every method: the tables' words that hold all through a run =====
def lw_all : List Cond := lw_tbl.filter goodWord
/-- a word of the tables by its place: claim/WORDS.tsv -/
theorem lw_w {w : Cond} (i : Nat) (h : lw_tbl[i]? = some w) (g : goodWord w = true) : w ∈ lw_all := List.mem_filter.mpr ⟨List.mem_of_getElem? h, g⟩
theorem lw_all_tbl {w : Cond} (h : w ∈ lw_all) : w ∈ lw_tbl := (List.mem_filter.mp h).1
theorem lw_self : GoodIn lw_all lw_all := fun w h => ⟨h, good_of_word (List.mem_filter.mp h).2⟩
/-- a class's field words, by their places -/
theorem lw_in (ws : List Cond) (ps : List Nat) (hp : ws = ps.filterMap (fun i => lw_tbl[i]?)) (hg : ws.all goodWord = true) : ∀ w ∈ ws, w ∈ lw_all := by
  intro w h
  have h1 := List.all_eq_true.mp hg w h
  rw [hp] at h
  obtain ⟨i, -, hi⟩ := List.mem_filterMap.mp h
  exact lw_w i hi h1
/-- the words of a contract for the method y with code b, L locals, answer r -/
abbrev ws_ (y : MethodName) (b : ByteArray) (L : Nat) (r : Option FieldType) : List Cond := Cond.code y b L r :: lw_all
theorem lw_meth {y : MethodName} {b : ByteArray} {L : Nat} {r : Option FieldType} (h : Cond.code y b L r ∈ lw_all) : GoodIn lw_all (ws_ y b L r) := by
  intro w hw
  rcases List.mem_cons.mp hw with e | e
  · rw [e]
    exact lw_self _ h
  · exact lw_self _ e
theorem lw_app {a c : List Cond} (ha : ∀ w ∈ a, w ∈ lw_all) (hc : GoodIn lw_all c) : GoodIn lw_all (a ++ c) := by
  intro w hw
  rcases List.mem_append.mp hw with e | e
  · exact lw_self w (ha w e)
  · exact hc w e
/-- what a call through an object asks: cwV n hts (lw_V ..) -/
theorem lw_V {own : String} {idx : Nat} {C : String} {y : MethodName} {b : ByteArray} {L : Nat} {r : Option FieldType} (h1 : Cond.methodLink own idx y ∈ lw_all) (h2 : Cond.instanceMethod y ∈ lw_all) (h3 : Cond.selects C y y ∈ lw_all) (h4 : Cond.initialized C ∈ lw_all) (h5 : Cond.code y b L r ∈ lw_all) : GoodIn lw_all (wsV own idx C y (ws_ y b L r)) := by
  refine lw_app ?_ (lw_meth h5)
  intro w hw
  simp only [List.mem_cons, List.not_mem_nil, or_false] at hw
  rcases hw with e | e | e | e
  · rw [e]; exact h1
  · rw [e]; exact h2
  · rw [e]; exact h3
  · rw [e]; exact h4
/-- what a static call asks: va_cwS n hts (lw_S ..) -/
theorem lw_S {own : String} {idx : Nat} {y : MethodName} {b : ByteArray} {L : Nat} {r : Option FieldType} (h1 : Cond.methodLink own idx y ∈ lw_all) (h2 : Cond.static y ∈ lw_all) (h3 : Cond.initialized y.cls ∈ lw_all) (h4 : Cond.code y b L r ∈ lw_all) : GoodIn lw_all (va_wsS own idx y (ws_ y b L r)) := by
  refine lw_app ?_ (lw_meth h4)
  intro w hw
  simp only [List.mem_cons, List.not_mem_nil, or_false] at hw
  rcases hw with e | e | e
  · rw [e]; exact h1
  · rw [e]; exact h2
  · rw [e]; exact h3
/-- the words of a contract for a method WITH HANDLERS (hh: its table) -/
abbrev wsW_ (y : MethodName) (b : ByteArray) (L : Nat) (r : Option FieldType) (hh : List (Nat × Nat × Nat × Nat)) : List Cond := Cond.codeWith y b L r hh :: lw_all
theorem lw_methW {y : MethodName} {b : ByteArray} {L : Nat} {r : Option FieldType} {hh : List (Nat × Nat × Nat × Nat)} (h : Cond.codeWith y b L r hh ∈ lw_all) : GoodIn lw_all (wsW_ y b L r hh) := by
  intro w hw
  rcases List.mem_cons.mp hw with e | e
  · rw [e]
    exact lw_self _ h
  · exact lw_self _ e
/-- any list of words by their places (lw_in), good -/
theorem lw_good {ws : List Cond} (h : ∀ w ∈ ws, w ∈ lw_all) : GoodIn lw_all ws := fun w hw => lw_self w (h w hw)
/-- what a call of a method with handlers asks: vx_cwVW n hts (lw_VW ..), vx_cwSW n hts (lw_SW ..) -/
theorem lw_VW {own : String} {idx : Nat} {C : String} {y : MethodName} {b : ByteArray} {L : Nat} {r : Option FieldType} {hh : List (Nat × Nat × Nat × Nat)} (h1 : Cond.methodLink own idx y ∈ lw_all) (h2 : Cond.instanceMethod y ∈ lw_all) (h3 : Cond.selects C y y ∈ lw_all) (h4 : Cond.initialized C ∈ lw_all) (h5 : Cond.codeWith y b L r hh ∈ lw_all) : GoodIn lw_all (wsV own idx C y (wsW_ y b L r hh)) := by
  refine lw_app ?_ (lw_methW h5)
  intro w hw
  simp only [List.mem_cons, List.not_mem_nil, or_false] at hw
  rcases hw with e | e | e | e
  · rw [e]; exact h1
  · rw [e]; exact h2
  · rw [e]; exact h3
  · rw [e]; exact h4
theorem lw_SW {own : String} {idx : Nat} {y : MethodName} {b : ByteArray} {L : Nat} {r : Option FieldType} {hh : List (Nat × Nat × Nat × Nat)} (h1 : Cond.methodLink own idx y ∈ lw_all) (h2 : Cond.static y ∈ lw_all) (h3 : Cond.initialized y.cls ∈ lw_all) (h4 : Cond.codeWith y b L r hh ∈ lw_all) : GoodIn lw_all (va_wsS own idx y (wsW_ y b L r hh)) := by
  refine lw_app ?_ (lw_methW h4)
  intro w hw
  simp only [List.mem_cons, List.not_mem_nil, or_false] at hw
  rcases hw with e | e | e
  · rw [e]; exact h1
  · rw [e]; exact h2
  · rw [e]; exact h3
/-- a word by its place in its run of the tables -/
theorem lw_at {r : List Cond} (hr : ∀ w ∈ r, w ∈ lw_tbl) {w : Cond} (i : Nat) (h : r[i]? = some w) : w ∈ lw_tbl := hr w (List.mem_of_getElem? h)
theorem lw_g {w : Cond} (h : w ∈ lw_tbl) (g : goodWord w = true) : w ∈ lw_all := List.mem_filter.mpr ⟨h, g⟩
theorem lw_ms : ∀ w ∈ k2_sels lw_privs, w ∈ lw_tbl := fun w h => show w ∈ k2_sels lw_privs ++ tables_1 from List.mem_append_left _ h
theorem lw_m1 : ∀ w ∈ tables_1_1, w ∈ lw_tbl := fun w h => show w ∈ k2_sels lw_privs ++ tables_1 from List.mem_append_right (k2_sels lw_privs) (show w ∈ tables_1 from List.mem_append_left _ h)
theorem lw_m2 : ∀ w ∈ tables_1_2, w ∈ lw_tbl := fun w h => show w ∈ k2_sels lw_privs ++ tables_1 from List.mem_append_right (k2_sels lw_privs) (show w ∈ tables_1 from List.mem_append_right _ h)
theorem qs0 : (Cond.selects "SpeedRows" ⟨"SpeedRows", "reached", "(II)I"⟩ ⟨"SpeedRows", "reached", "(II)I"⟩) ∈ lw_all := lw_g (lw_at lw_ms 0 rfl) rfl
theorem qs1 : (Cond.selects "SpeedRows" ⟨"SpeedRows", "isCorner", "(I)Z"⟩ ⟨"SpeedRows", "isCorner", "(I)Z"⟩) ∈ lw_all := lw_g (lw_at lw_ms 1 rfl) rfl
theorem qs2 : (Cond.selects "SpeedRows" ⟨"SpeedRows", "fall", "()V"⟩ ⟨"SpeedRows", "fall", "()V"⟩) ∈ lw_all := lw_g (lw_at lw_ms 2 rfl) rfl
theorem qs3 : (Cond.selects "SpeedRowsModel" ⟨"SpeedRowsModel", "know", "()V"⟩ ⟨"SpeedRowsModel", "know", "()V"⟩) ∈ lw_all := lw_g (lw_at lw_ms 3 rfl) rfl
theorem qs4 : (Cond.selects "SpeedRowsModel" ⟨"SpeedRowsModel", "reach", "(II)I"⟩ ⟨"SpeedRowsModel", "reach", "(II)I"⟩) ∈ lw_all := lw_g (lw_at lw_ms 4 rfl) rfl
theorem qs5 : (Cond.selects "SpeedRowsModel" ⟨"SpeedRowsModel", "lowered", "(II)Z"⟩ ⟨"SpeedRowsModel", "lowered", "(II)Z"⟩) ∈ lw_all := lw_g (lw_at lw_ms 5 rfl) rfl
end
section
/-! java/lang/Record -/
set_option maxRecDepth 100000
def RJ0 : String := "java/lang/Record"
abbrev cJ0_init : ByteArray := prog_7_method_1_code
def yJ0_init : MethodName := ⟨RJ0, "<init>", "()V"⟩
theorem dJ0_init_0 : decode cJ0_init 0 = .ok (.aload_n 0, 1) := by decide +kernel
theorem dJ0_init_1 : decode cJ0_init 1 = .ok (.invokespecial 1, 3) := by decide +kernel
theorem dJ0_init_4 : decode cJ0_init 4 = .ok (.return_, 1) := by decide +kernel
theorem q8 : (Jvm.Cond.initialized "java/lang/Record") ∈ lw_all := lw_g (lw_at lw_m1 2 rfl) rfl
theorem q29 : (Jvm.Cond.instanceMethod ({ cls := "java/lang/Record", name := "<init>", desc := "()V" } : Jvm.MethodName)) ∈ lw_all := lw_g (lw_at lw_m1 23 rfl) rfl
theorem q30 : (Jvm.Cond.code ({ cls := "java/lang/Record", name := "<init>", desc := "()V" } : Jvm.MethodName) prog_7_method_1_code (1 : Nat) (Option.none : Option Jvm.ClassFile.FieldType)) ∈ lw_all := lw_g (lw_at lw_m1 24 rfl) rfl
theorem q31 : (Jvm.Cond.methodLink "java/lang/Record" (1 : Nat) ({ cls := "java/lang/Object", name := "<init>", desc := "()V" } : Jvm.MethodName)) ∈ lw_all := lw_g (lw_at lw_m1 25 rfl) rfl
/-! java/lang/Math -/
set_option maxRecDepth 100000
def RJ1 : String := "java/lang/Math"
abbrev cJ1_max : ByteArray := prog_6_method_65_code
def yJ1_max : MethodName := ⟨RJ1, "max", "(II)I"⟩
theorem dJ1_max_0 : decode cJ1_max 0 = .ok (.iload_n 0, 1) := by decide +kernel
theorem dJ1_max_1 : decode cJ1_max 1 = .ok (.iload_n 1, 1) := by decide +kernel
theorem dJ1_max_2 : decode cJ1_max 2 = .ok (.if_icmp .lt 7, 3) := by decide +kernel
theorem dJ1_max_5 : decode cJ1_max 5 = .ok (.iload_n 0, 1) := by decide +kernel
theorem dJ1_max_6 : decode cJ1_max 6 = .ok (.goto 4, 3) := by decide +kernel
theorem dJ1_max_9 : decode cJ1_max 9 = .ok (.iload_n 1, 1) := by decide +kernel
theorem dJ1_max_10 : decode cJ1_max 10 = .ok (.ireturn, 1) := by decide +kernel
abbrev cJ1_min : ByteArray := prog_6_method_69_code
def yJ1_min : MethodName := ⟨RJ1, "min", "(II)I"⟩
theorem dJ1_min_0 : decode cJ1_min 0 = .ok (.iload_n 0, 1) := by decide +kernel
theorem dJ1_min_1 : decode cJ1_min 1 = .ok (.iload_n 1, 1) := by decide +kernel
theorem dJ1_min_2 : decode cJ1_min 2 = .ok (.if_icmp .gt 7, 3) := by decide +kernel
theorem dJ1_min_5 : decode cJ1_min 5 = .ok (.iload_n 0, 1) := by decide +kernel
theorem dJ1_min_6 : decode cJ1_min 6 = .ok (.goto 4, 3) := by decide +kernel
theorem dJ1_min_9 : decode cJ1_min 9 = .ok (.iload_n 1, 1) := by decide +kernel
theorem dJ1_min_10 : decode cJ1_min 10 = .ok (.ireturn, 1) := by decide +kernel
theorem q12 : (Jvm.Cond.initialized "java/lang/Math") ∈ lw_all := lw_g (lw_at lw_m1 6 rfl) rfl
theorem q122 : (Jvm.Cond.static ({ cls := "java/lang/Math", name := "max", desc := "(II)I" } : Jvm.MethodName)) ∈ lw_all := lw_g (lw_at lw_m1 116 rfl) rfl
theorem q123 : (Jvm.Cond.code ({ cls := "java/lang/Math", name := "max", desc := "(II)I" } : Jvm.MethodName) prog_6_method_65_code (2 : Nat) (Option.some Jvm.ClassFile.FieldType.int)) ∈ lw_all := lw_g (lw_at lw_m1 117 rfl) rfl
theorem q129 : (Jvm.Cond.static ({ cls := "java/lang/Math", name := "min", desc := "(II)I" } : Jvm.MethodName)) ∈ lw_all := lw_g (lw_at lw_m1 123 rfl) rfl
theorem q130 : (Jvm.Cond.code ({ cls := "java/lang/Math", name := "min", desc := "(II)I" } : Jvm.MethodName) prog_6_method_69_code (2 : Nat) (Option.some Jvm.ClassFile.FieldType.int)) ∈ lw_all := lw_g (lw_at lw_m1 124 rfl) rfl
/-! java/lang/Object -/
set_option maxRecDepth 100000
def RJ2 : String := "java/lang/Object"
abbrev cJ2_init : ByteArray := object_method_1_code
def yJ2_init : MethodName := ⟨RJ2, "<init>", "()V"⟩
theorem dJ2_init_0 : decode cJ2_init 0 = .ok (.return_, 1) := by decide +kernel
theorem q19 : (Jvm.Cond.instanceMethod ({ cls := "java/lang/Object", name := "<init>", desc := "()V" } : Jvm.MethodName)) ∈ lw_all := lw_g (lw_at lw_m1 13 rfl) rfl
theorem q20 : (Jvm.Cond.code ({ cls := "java/lang/Object", name := "<init>", desc := "()V" } : Jvm.MethodName) object_method_1_code (1 : Nat) (Option.none : Option Jvm.ClassFile.FieldType)) ∈ lw_all := lw_g (lw_at lw_m1 14 rfl) rfl
/-! SpeedRows$Step -/
set_option maxRecDepth 100000
def RX1 : String := "SpeedRows$Step"
def TX1 : u_T := fun k => match k with
  | 0 => ("SpeedRows$Step", "x", "I", true)
  | 1 => ("SpeedRows$Step", "y", "I", true)
  | _ => ("SpeedRows$Step", "z", "I", true)
def tyX1 : Nat → FieldType := fun k => match k with
  | 0 => .int
  | 1 => .int
  | _ => .int
abbrev wsX10 : List Cond := u_ws RX1 TX1 3
theorem nmX1 : ∀ a, a < 3 → ∀ b, b < 3 → a ≠ b → (TX1 a).2.1 ≠ (TX1 b).2.1 := by decide +kernel
theorem tyX1_ok : ∀ k, k < 3 → parseFieldDescriptor (TX1 k).2.2.1 = some (tyX1 k) := by decide +kernel
abbrev cX1_init : ByteArray := prog_3_method_1_code
def yX1_init : MethodName := ⟨RX1, "<init>", "(III)V"⟩
theorem dX1_init_0 : decode cX1_init 0 = .ok (.aload_n 0, 1) := by decide +kernel
theorem dX1_init_1 : decode cX1_init 1 = .ok (.invokespecial 1, 3) := by decide +kernel
theorem dX1_init_4 : decode cX1_init 4 = .ok (.aload_n 0, 1) := by decide +kernel
theorem dX1_init_5 : decode cX1_init 5 = .ok (.iload_n 1, 1) := by decide +kernel
theorem dX1_init_6 : decode cX1_init 6 = .ok (.putfield 7, 3) := by decide +kernel
theorem dX1_init_9 : decode cX1_init 9 = .ok (.aload_n 0, 1) := by decide +kernel
theorem dX1_init_10 : decode cX1_init 10 = .ok (.iload_n 2, 1) := by decide +kernel
theorem dX1_init_11 : decode cX1_init 11 = .ok (.putfield 13, 3) := by decide +kernel
theorem dX1_init_14 : decode cX1_init 14 = .ok (.aload_n 0, 1) := by decide +kernel
theorem dX1_init_15 : decode cX1_init 15 = .ok (.iload_n 3, 1) := by decide +kernel
theorem dX1_init_16 : decode cX1_init 16 = .ok (.putfield 16, 3) := by decide +kernel
theorem dX1_init_19 : decode cX1_init 19 = .ok (.return_, 1) := by decide +kernel
abbrev cX1_isOne : ByteArray := prog_3_method_2_code
def yX1_isOne : MethodName := ⟨RX1, "isOne", "(III)Z"⟩
theorem dX1_isOne_0 : decode cX1_isOne 0 = .ok (.iload_n 0, 1) := by decide +kernel
theorem dX1_isOne_1 : decode cX1_isOne 1 = .ok (.iconst (-1), 1) := by decide +kernel
theorem dX1_isOne_2 : decode cX1_isOne 2 = .ok (.if_icmp .lt 44, 3) := by decide +kernel
theorem dX1_isOne_5 : decode cX1_isOne 5 = .ok (.iload_n 0, 1) := by decide +kernel
theorem dX1_isOne_6 : decode cX1_isOne 6 = .ok (.iconst 1, 1) := by decide +kernel
theorem dX1_isOne_7 : decode cX1_isOne 7 = .ok (.if_icmp .gt 39, 3) := by decide +kernel
theorem dX1_isOne_10 : decode cX1_isOne 10 = .ok (.iload_n 1, 1) := by decide +kernel
theorem dX1_isOne_11 : decode cX1_isOne 11 = .ok (.iconst (-1), 1) := by decide +kernel
theorem dX1_isOne_12 : decode cX1_isOne 12 = .ok (.if_icmp .lt 34, 3) := by decide +kernel
theorem dX1_isOne_15 : decode cX1_isOne 15 = .ok (.iload_n 1, 1) := by decide +kernel
theorem dX1_isOne_16 : decode cX1_isOne 16 = .ok (.iconst 1, 1) := by decide +kernel
theorem dX1_isOne_17 : decode cX1_isOne 17 = .ok (.if_icmp .gt 29, 3) := by decide +kernel
theorem dX1_isOne_20 : decode cX1_isOne 20 = .ok (.iload_n 2, 1) := by decide +kernel
theorem dX1_isOne_21 : decode cX1_isOne 21 = .ok (.iconst (-1), 1) := by decide +kernel
theorem dX1_isOne_22 : decode cX1_isOne 22 = .ok (.if_icmp .lt 24, 3) := by decide +kernel
theorem dX1_isOne_25 : decode cX1_isOne 25 = .ok (.iload_n 2, 1) := by decide +kernel
theorem dX1_isOne_26 : decode cX1_isOne 26 = .ok (.iconst 1, 1) := by decide +kernel
theorem dX1_isOne_27 : decode cX1_isOne 27 = .ok (.if_icmp .gt 19, 3) := by decide +kernel
theorem dX1_isOne_30 : decode cX1_isOne 30 = .ok (.iload_n 0, 1) := by decide +kernel
theorem dX1_isOne_31 : decode cX1_isOne 31 = .ok (.ifCond .ne 11, 3) := by decide +kernel
theorem dX1_isOne_34 : decode cX1_isOne 34 = .ok (.iload_n 1, 1) := by decide +kernel
theorem dX1_isOne_35 : decode cX1_isOne 35 = .ok (.ifCond .ne 7, 3) := by decide +kernel
theorem dX1_isOne_38 : decode cX1_isOne 38 = .ok (.iload_n 2, 1) := by decide +kernel
theorem dX1_isOne_39 : decode cX1_isOne 39 = .ok (.ifCond .eq 7, 3) := by decide +kernel
theorem dX1_isOne_42 : decode cX1_isOne 42 = .ok (.iconst 1, 1) := by decide +kernel
theorem dX1_isOne_43 : decode cX1_isOne 43 = .ok (.goto 4, 3) := by decide +kernel
theorem dX1_isOne_46 : decode cX1_isOne 46 = .ok (.iconst 0, 1) := by decide +kernel
theorem dX1_isOne_47 : decode cX1_isOne 47 = .ok (.ireturn, 1) := by decide +kernel
abbrev cX1_times : ByteArray := prog_3_method_3_code
def yX1_times : MethodName := ⟨RX1, "times", "(LSpeedRows$Step;)I"⟩
theorem dX1_times_0 : decode cX1_times 0 = .ok (.aload_n 0, 1) := by decide +kernel
theorem dX1_times_1 : decode cX1_times 1 = .ok (.getfield 7, 3) := by decide +kernel
theorem dX1_times_4 : decode cX1_times 4 = .ok (.aload_n 1, 1) := by decide +kernel
theorem dX1_times_5 : decode cX1_times 5 = .ok (.getfield 7, 3) := by decide +kernel
theorem dX1_times_8 : decode cX1_times 8 = .ok (.imul, 1) := by decide +kernel
theorem dX1_times_9 : decode cX1_times 9 = .ok (.aload_n 0, 1) := by decide +kernel
theorem dX1_times_10 : decode cX1_times 10 = .ok (.getfield 13, 3) := by decide +kernel
theorem dX1_times_13 : decode cX1_times 13 = .ok (.aload_n 1, 1) := by decide +kernel
theorem dX1_times_14 : decode cX1_times 14 = .ok (.getfield 13, 3) := by decide +kernel
theorem dX1_times_17 : decode cX1_times 17 = .ok (.imul, 1) := by decide +kernel
theorem dX1_times_18 : decode cX1_times 18 = .ok (.iadd, 1) := by decide +kernel
theorem dX1_times_19 : decode cX1_times 19 = .ok (.aload_n 0, 1) := by decide +kernel
theorem dX1_times_20 : decode cX1_times 20 = .ok (.getfield 16, 3) := by decide +kernel
theorem dX1_times_23 : decode cX1_times 23 = .ok (.aload_n 1, 1) := by decide +kernel
theorem dX1_times_24 : decode cX1_times 24 = .ok (.getfield 16, 3) := by decide +kernel
theorem dX1_times_27 : decode cX1_times 27 = .ok (.imul, 1) := by decide +kernel
theorem dX1_times_28 : decode cX1_times 28 = .ok (.iadd, 1) := by decide +kernel
theorem dX1_times_29 : decode cX1_times 29 = .ok (.ireturn, 1) := by decide +kernel
theorem q9 : (Jvm.Cond.initialized "SpeedRows$Step") ∈ lw_all := lw_g (lw_at lw_m1 3 rfl) rfl
theorem q24 : (Jvm.Cond.instantiable "SpeedRows$Step" (3 : Nat)) ∈ lw_all := lw_g (lw_at lw_m1 18 rfl) rfl
theorem q26 : (Jvm.Cond.instanceMethod ({ cls := "SpeedRows$Step", name := "<init>", desc := "(III)V" } : Jvm.MethodName)) ∈ lw_all := lw_g (lw_at lw_m1 20 rfl) rfl
theorem q27 : (Jvm.Cond.code ({ cls := "SpeedRows$Step", name := "<init>", desc := "(III)V" } : Jvm.MethodName) prog_3_method_1_code (4 : Nat) (Option.none : Option Jvm.ClassFile.FieldType)) ∈ lw_all := lw_g (lw_at lw_m1 21 rfl) rfl
theorem q28 : (Jvm.Cond.methodLink "SpeedRows$Step" (1 : Nat) ({ cls := "java/lang/Record", name := "<init>", desc := "()V" } : Jvm.MethodName)) ∈ lw_all := lw_g (lw_at lw_m1 22 rfl) rfl
theorem q32 : (Jvm.Cond.fieldLink "SpeedRows$Step" (7 : Nat) "SpeedRows$Step" "x" "I") ∈ lw_all := lw_g (lw_at lw_m1 26 rfl) rfl
theorem q33 : (Jvm.Cond.fieldLink "SpeedRows$Step" (13 : Nat) "SpeedRows$Step" "y" "I") ∈ lw_all := lw_g (lw_at lw_m1 27 rfl) rfl
theorem q34 : (Jvm.Cond.fieldLink "SpeedRows$Step" (16 : Nat) "SpeedRows$Step" "z" "I") ∈ lw_all := lw_g (lw_at lw_m1 28 rfl) rfl
theorem q35 : (Jvm.Cond.laysFinal "SpeedRows$Step" "SpeedRows$Step" "x" "I") ∈ lw_all := lw_g (lw_at lw_m1 29 rfl) rfl
theorem q36 : (Jvm.Cond.soleField "SpeedRows$Step" "x") ∈ lw_all := lw_g (lw_at lw_m1 30 rfl) rfl
theorem q37 : (Jvm.Cond.laysFinal "SpeedRows$Step" "SpeedRows$Step" "y" "I") ∈ lw_all := lw_g (lw_at lw_m1 31 rfl) rfl
theorem q38 : (Jvm.Cond.soleField "SpeedRows$Step" "y") ∈ lw_all := lw_g (lw_at lw_m1 32 rfl) rfl
theorem q39 : (Jvm.Cond.laysFinal "SpeedRows$Step" "SpeedRows$Step" "z" "I") ∈ lw_all := lw_g (lw_at lw_m1 33 rfl) rfl
theorem q40 : (Jvm.Cond.soleField "SpeedRows$Step" "z") ∈ lw_all := lw_g (lw_at lw_m1 34 rfl) rfl
theorem q41 : (Jvm.Cond.superclass "SpeedRows$Step" "java/lang/Record") ∈ lw_all := lw_g (lw_at lw_m1 35 rfl) rfl
theorem q76 : (Jvm.Cond.static ({ cls := "SpeedRows$Step", name := "isOne", desc := "(III)Z" } : Jvm.MethodName)) ∈ lw_all := lw_g (lw_at lw_m1 70 rfl) rfl
theorem q77 : (Jvm.Cond.code ({ cls := "SpeedRows$Step", name := "isOne", desc := "(III)Z" } : Jvm.MethodName) prog_3_method_2_code (3 : Nat) (Option.some Jvm.ClassFile.FieldType.boolean)) ∈ lw_all := lw_g (lw_at lw_m1 71 rfl) rfl
theorem q118 : (Jvm.Cond.instanceMethod ({ cls := "SpeedRows$Step", name := "times", desc := "(LSpeedRows$Step;)I" } : Jvm.MethodName)) ∈ lw_all := lw_g (lw_at lw_m1 112 rfl) rfl
theorem q119 : (Jvm.Cond.selects "SpeedRows$Step" ({ cls := "SpeedRows$Step", name := "times", desc := "(LSpeedRows$Step;)I" } : Jvm.MethodName) ({ cls := "SpeedRows$Step", name := "times", desc := "(LSpeedRows$Step;)I" } : Jvm.MethodName)) ∈ lw_all := lw_g (lw_at lw_m1 113 rfl) rfl
theorem q120 : (Jvm.Cond.code ({ cls := "SpeedRows$Step", name := "times", desc := "(LSpeedRows$Step;)I" } : Jvm.MethodName) prog_3_method_3_code (2 : Nat) (Option.some Jvm.ClassFile.FieldType.int)) ∈ lw_all := lw_g (lw_at lw_m1 114 rfl) rfl
theorem in_X1 : ∀ w ∈ wsX10, w ∈ lw_all := lw_in wsX10 [35, 37, 39] (by decide +kernel) (by decide +kernel)
/-! SpeedRows$Move -/
set_option maxRecDepth 100000
def RX3 : String := "SpeedRows$Move"
def TX3 : u_T := fun k => match k with
  | 0 => ("SpeedRows$Move", "n", "I", true)
  | 1 => ("SpeedRows$Move", "feed", "I", true)
  | 2 => ("SpeedRows$Move", "first", "LSpeedRows$Step;", true)
  | _ => ("SpeedRows$Move", "last", "LSpeedRows$Step;", true)
def tyX3 : Nat → FieldType := fun k => match k with
  | 0 => .int
  | 1 => .int
  | 2 => .object "SpeedRows$Step"
  | _ => .object "SpeedRows$Step"
abbrev wsX30 : List Cond := u_ws RX3 TX3 4
theorem nmX3 : ∀ a, a < 4 → ∀ b, b < 4 → a ≠ b → (TX3 a).2.1 ≠ (TX3 b).2.1 := by decide +kernel
theorem tyX3_ok : ∀ k, k < 4 → parseFieldDescriptor (TX3 k).2.2.1 = some (tyX3 k) := by decide +kernel
abbrev cX3_init : ByteArray := prog_2_method_1_code
def yX3_init : MethodName := ⟨RX3, "<init>", "(IILSpeedRows$Step;LSpeedRows$Step;)V"⟩
theorem dX3_init_0 : decode cX3_init 0 = .ok (.aload_n 0, 1) := by decide +kernel
theorem dX3_init_1 : decode cX3_init 1 = .ok (.invokespecial 1, 3) := by decide +kernel
theorem dX3_init_4 : decode cX3_init 4 = .ok (.aload_n 0, 1) := by decide +kernel
theorem dX3_init_5 : decode cX3_init 5 = .ok (.iload_n 1, 1) := by decide +kernel
theorem dX3_init_6 : decode cX3_init 6 = .ok (.putfield 7, 3) := by decide +kernel
theorem dX3_init_9 : decode cX3_init 9 = .ok (.aload_n 0, 1) := by decide +kernel
theorem dX3_init_10 : decode cX3_init 10 = .ok (.iload_n 2, 1) := by decide +kernel
theorem dX3_init_11 : decode cX3_init 11 = .ok (.putfield 13, 3) := by decide +kernel
theorem dX3_init_14 : decode cX3_init 14 = .ok (.aload_n 0, 1) := by decide +kernel
theorem dX3_init_15 : decode cX3_init 15 = .ok (.aload_n 3, 1) := by decide +kernel
theorem dX3_init_16 : decode cX3_init 16 = .ok (.putfield 16, 3) := by decide +kernel
theorem dX3_init_19 : decode cX3_init 19 = .ok (.aload_n 0, 1) := by decide +kernel
theorem dX3_init_20 : decode cX3_init 20 = .ok (.aload 4, 2) := by decide +kernel
theorem dX3_init_22 : decode cX3_init 22 = .ok (.putfield 20, 3) := by decide +kernel
theorem dX3_init_25 : decode cX3_init 25 = .ok (.return_, 1) := by decide +kernel
abbrev cX3_last : ByteArray := prog_2_method_8_code
def yX3_last : MethodName := ⟨RX3, "last", "()LSpeedRows$Step;"⟩
theorem dX3_last_0 : decode cX3_last 0 = .ok (.aload_n 0, 1) := by decide +kernel
theorem dX3_last_1 : decode cX3_last 1 = .ok (.getfield 20, 3) := by decide +kernel
theorem dX3_last_4 : decode cX3_last 4 = .ok (.areturn, 1) := by decide +kernel
abbrev cX3_first : ByteArray := prog_2_method_7_code
def yX3_first : MethodName := ⟨RX3, "first", "()LSpeedRows$Step;"⟩
theorem dX3_first_0 : decode cX3_first 0 = .ok (.aload_n 0, 1) := by decide +kernel
theorem dX3_first_1 : decode cX3_first 1 = .ok (.getfield 16, 3) := by decide +kernel
theorem dX3_first_4 : decode cX3_first 4 = .ok (.areturn, 1) := by decide +kernel
abbrev cX3_feed : ByteArray := prog_2_method_6_code
def yX3_feed : MethodName := ⟨RX3, "feed", "()I"⟩
theorem dX3_feed_0 : decode cX3_feed 0 = .ok (.aload_n 0, 1) := by decide +kernel
theorem dX3_feed_1 : decode cX3_feed 1 = .ok (.getfield 13, 3) := by decide +kernel
theorem dX3_feed_4 : decode cX3_feed 4 = .ok (.ireturn, 1) := by decide +kernel
abbrev cX3_n : ByteArray := prog_2_method_5_code
def yX3_n : MethodName := ⟨RX3, "n", "()I"⟩
theorem dX3_n_0 : decode cX3_n 0 = .ok (.aload_n 0, 1) := by decide +kernel
theorem dX3_n_1 : decode cX3_n 1 = .ok (.getfield 7, 3) := by decide +kernel
theorem dX3_n_4 : decode cX3_n 4 = .ok (.ireturn, 1) := by decide +kernel
theorem q11 : (Jvm.Cond.initialized "SpeedRows$Move") ∈ lw_all := lw_g (lw_at lw_m1 5 rfl) rfl
theorem q88 : (Jvm.Cond.instantiable "SpeedRows$Move" (4 : Nat)) ∈ lw_all := lw_g (lw_at lw_m1 82 rfl) rfl
theorem q90 : (Jvm.Cond.instanceMethod ({ cls := "SpeedRows$Move", name := "<init>", desc := "(IILSpeedRows$Step;LSpeedRows$Step;)V" } : Jvm.MethodName)) ∈ lw_all := lw_g (lw_at lw_m1 84 rfl) rfl
theorem q91 : (Jvm.Cond.code ({ cls := "SpeedRows$Move", name := "<init>", desc := "(IILSpeedRows$Step;LSpeedRows$Step;)V" } : Jvm.MethodName) prog_2_method_1_code (5 : Nat) (Option.none : Option Jvm.ClassFile.FieldType)) ∈ lw_all := lw_g (lw_at lw_m1 85 rfl) rfl
theorem q92 : (Jvm.Cond.methodLink "SpeedRows$Move" (1 : Nat) ({ cls := "java/lang/Record", name := "<init>", desc := "()V" } : Jvm.MethodName)) ∈ lw_all := lw_g (lw_at lw_m1 86 rfl) rfl
theorem q93 : (Jvm.Cond.fieldLink "SpeedRows$Move" (7 : Nat) "SpeedRows$Move" "n" "I") ∈ lw_all := lw_g (lw_at lw_m1 87 rfl) rfl
theorem q94 : (Jvm.Cond.fieldLink "SpeedRows$Move" (13 : Nat) "SpeedRows$Move" "feed" "I") ∈ lw_all := lw_g (lw_at lw_m1 88 rfl) rfl
theorem q95 : (Jvm.Cond.fieldLink "SpeedRows$Move" (16 : Nat) "SpeedRows$Move" "first" "LSpeedRows$Step;") ∈ lw_all := lw_g (lw_at lw_m1 89 rfl) rfl
theorem q96 : (Jvm.Cond.fieldLink "SpeedRows$Move" (20 : Nat) "SpeedRows$Move" "last" "LSpeedRows$Step;") ∈ lw_all := lw_g (lw_at lw_m1 90 rfl) rfl
theorem q97 : (Jvm.Cond.laysFinal "SpeedRows$Move" "SpeedRows$Move" "n" "I") ∈ lw_all := lw_g (lw_at lw_m1 91 rfl) rfl
theorem q98 : (Jvm.Cond.soleField "SpeedRows$Move" "n") ∈ lw_all := lw_g (lw_at lw_m1 92 rfl) rfl
theorem q99 : (Jvm.Cond.laysFinal "SpeedRows$Move" "SpeedRows$Move" "feed" "I") ∈ lw_all := lw_g (lw_at lw_m1 93 rfl) rfl
theorem q100 : (Jvm.Cond.soleField "SpeedRows$Move" "feed") ∈ lw_all := lw_g (lw_at lw_m1 94 rfl) rfl
theorem q101 : (Jvm.Cond.laysFinal "SpeedRows$Move" "SpeedRows$Move" "first" "LSpeedRows$Step;") ∈ lw_all := lw_g (lw_at lw_m1 95 rfl) rfl
theorem q102 : (Jvm.Cond.soleField "SpeedRows$Move" "first") ∈ lw_all := lw_g (lw_at lw_m1 96 rfl) rfl
theorem q103 : (Jvm.Cond.laysFinal "SpeedRows$Move" "SpeedRows$Move" "last" "LSpeedRows$Step;") ∈ lw_all := lw_g (lw_at lw_m1 97 rfl) rfl
theorem q104 : (Jvm.Cond.soleField "SpeedRows$Move" "last") ∈ lw_all := lw_g (lw_at lw_m1 98 rfl) rfl
theorem q105 : (Jvm.Cond.superclass "SpeedRows$Move" "java/lang/Record") ∈ lw_all := lw_g (lw_at lw_m1 99 rfl) rfl
theorem q110 : (Jvm.Cond.instanceMethod ({ cls := "SpeedRows$Move", name := "last", desc := "()LSpeedRows$Step;" } : Jvm.MethodName)) ∈ lw_all := lw_g (lw_at lw_m1 104 rfl) rfl
theorem q111 : (Jvm.Cond.selects "SpeedRows$Move" ({ cls := "SpeedRows$Move", name := "last", desc := "()LSpeedRows$Step;" } : Jvm.MethodName) ({ cls := "SpeedRows$Move", name := "last", desc := "()LSpeedRows$Step;" } : Jvm.MethodName)) ∈ lw_all := lw_g (lw_at lw_m1 105 rfl) rfl
theorem q112 : (Jvm.Cond.code ({ cls := "SpeedRows$Move", name := "last", desc := "()LSpeedRows$Step;" } : Jvm.MethodName) prog_2_method_8_code (1 : Nat) (Option.some (Jvm.ClassFile.FieldType.object "SpeedRows$Step"))) ∈ lw_all := lw_g (lw_at lw_m1 106 rfl) rfl
theorem q114 : (Jvm.Cond.instanceMethod ({ cls := "SpeedRows$Move", name := "first", desc := "()LSpeedRows$Step;" } : Jvm.MethodName)) ∈ lw_all := lw_g (lw_at lw_m1 108 rfl) rfl
theorem q115 : (Jvm.Cond.selects "SpeedRows$Move" ({ cls := "SpeedRows$Move", name := "first", desc := "()LSpeedRows$Step;" } : Jvm.MethodName) ({ cls := "SpeedRows$Move", name := "first", desc := "()LSpeedRows$Step;" } : Jvm.MethodName)) ∈ lw_all := lw_g (lw_at lw_m1 109 rfl) rfl
theorem q116 : (Jvm.Cond.code ({ cls := "SpeedRows$Move", name := "first", desc := "()LSpeedRows$Step;" } : Jvm.MethodName) prog_2_method_7_code (1 : Nat) (Option.some (Jvm.ClassFile.FieldType.object "SpeedRows$Step"))) ∈ lw_all := lw_g (lw_at lw_m1 110 rfl) rfl
theorem q125 : (Jvm.Cond.instanceMethod ({ cls := "SpeedRows$Move", name := "feed", desc := "()I" } : Jvm.MethodName)) ∈ lw_all := lw_g (lw_at lw_m1 119 rfl) rfl
theorem q126 : (Jvm.Cond.selects "SpeedRows$Move" ({ cls := "SpeedRows$Move", name := "feed", desc := "()I" } : Jvm.MethodName) ({ cls := "SpeedRows$Move", name := "feed", desc := "()I" } : Jvm.MethodName)) ∈ lw_all := lw_g (lw_at lw_m1 120 rfl) rfl
theorem q127 : (Jvm.Cond.code ({ cls := "SpeedRows$Move", name := "feed", desc := "()I" } : Jvm.MethodName) prog_2_method_6_code (1 : Nat) (Option.some Jvm.ClassFile.FieldType.int)) ∈ lw_all := lw_g (lw_at lw_m1 121 rfl) rfl
theorem q132 : (Jvm.Cond.instanceMethod ({ cls := "SpeedRows$Move", name := "n", desc := "()I" } : Jvm.MethodName)) ∈ lw_all := lw_g (lw_at lw_m1 126 rfl) rfl
theorem q133 : (Jvm.Cond.selects "SpeedRows$Move" ({ cls := "SpeedRows$Move", name := "n", desc := "()I" } : Jvm.MethodName) ({ cls := "SpeedRows$Move", name := "n", desc := "()I" } : Jvm.MethodName)) ∈ lw_all := lw_g (lw_at lw_m1 127 rfl) rfl
theorem q134 : (Jvm.Cond.code ({ cls := "SpeedRows$Move", name := "n", desc := "()I" } : Jvm.MethodName) prog_2_method_5_code (1 : Nat) (Option.some Jvm.ClassFile.FieldType.int)) ∈ lw_all := lw_g (lw_at lw_m1 128 rfl) rfl
theorem in_X3 : ∀ w ∈ wsX30, w ∈ lw_all := lw_in wsX30 [97, 99, 101, 103] (by decide +kernel) (by decide +kernel)
theorem q6 : (Jvm.Cond.initialized "SpeedRowsLaw") ∈ lw_all := lw_g (lw_at lw_m1 0 rfl) rfl
set_option maxRecDepth 100000
theorem q13 : (Jvm.Cond.classLink "SpeedRowsLaw" (7 : Nat) "SpeedRows") ∈ lw_all := lw_g (lw_at lw_m1 7 rfl) rfl
theorem q15 : (Jvm.Cond.methodLink "SpeedRowsLaw" (9 : Nat) ({ cls := "SpeedRows", name := "<init>", desc := "()V" } : Jvm.MethodName)) ∈ lw_all := lw_g (lw_at lw_m1 9 rfl) rfl
theorem q71 : (Jvm.Cond.methodLink "SpeedRowsLaw" (13 : Nat) ({ cls := "SpeedRows", name := "first", desc := "(III)Z" } : Jvm.MethodName)) ∈ lw_all := lw_g (lw_at lw_m1 65 rfl) rfl
theorem q78 : (Jvm.Cond.methodLink "SpeedRowsLaw" (18 : Nat) ({ cls := "SpeedRows", name := "last", desc := "(III)Z" } : Jvm.MethodName)) ∈ lw_all := lw_g (lw_at lw_m1 72 rfl) rfl
theorem q82 : (Jvm.Cond.methodLink "SpeedRowsLaw" (22 : Nat) ({ cls := "SpeedRows", name := "move", desc := "(II)I" } : Jvm.MethodName)) ∈ lw_all := lw_g (lw_at lw_m1 76 rfl) rfl
theorem q143 : (Jvm.Cond.methodLink "SpeedRowsLaw" (27 : Nat) ({ cls := "SpeedRows", name := "back", desc := "(I)I" } : Jvm.MethodName)) ∈ lw_all := lw_g (lw_at lw_m1 137 rfl) rfl
theorem q147 : (Jvm.Cond.methodLink "SpeedRowsLaw" (32 : Nat) ({ cls := "SpeedRows", name := "acceleration", desc := "(I)Z" } : Jvm.MethodName)) ∈ lw_all := lw_g (lw_at lw_m1 141 rfl) rfl
theorem q151 : (Jvm.Cond.methodLink "SpeedRowsLaw" (37 : Nat) ({ cls := "SpeedRows", name := "limit", desc := "(I)I" } : Jvm.MethodName)) ∈ lw_all := lw_g (lw_at lw_m1 145 rfl) rfl
theorem q159 : (Jvm.Cond.methodLink "SpeedRowsLaw" (41 : Nat) ({ cls := "SpeedRows", name := "speed", desc := "(I)I" } : Jvm.MethodName)) ∈ lw_all := lw_g (lw_at lw_m1 153 rfl) rfl
theorem q167 : (Jvm.Cond.methodLink "SpeedRowsLaw" (45 : Nat) ({ cls := "SpeedRows", name := "sum", desc := "()J" } : Jvm.MethodName)) ∈ lw_all := lw_g (lw_at lw_m1 161 rfl) rfl
theorem q171 : (Jvm.Cond.methodLink "SpeedRowsLaw" (50 : Nat) ({ cls := "SpeedRows", name := "below", desc := "()I" } : Jvm.MethodName)) ∈ lw_all := lw_g (lw_at lw_m1 165 rfl) rfl
theorem q176 : (Jvm.Cond.classLink "SpeedRowsLaw" (10 : Nat) "SpeedRowsModel") ∈ lw_all := lw_g (lw_at lw_m1 170 rfl) rfl
theorem q178 : (Jvm.Cond.methodLink "SpeedRowsLaw" (12 : Nat) ({ cls := "SpeedRowsModel", name := "<init>", desc := "()V" } : Jvm.MethodName)) ∈ lw_all := lw_g (lw_at lw_m1 172 rfl) rfl
theorem q214 : (Jvm.Cond.methodLink "SpeedRowsLaw" (17 : Nat) ({ cls := "SpeedRowsModel", name := "first", desc := "(III)Z" } : Jvm.MethodName)) ∈ lw_all := lw_g (lw_at lw_m1 208 rfl) rfl
theorem q224 : (Jvm.Cond.methodLink "SpeedRowsLaw" (21 : Nat) ({ cls := "SpeedRowsModel", name := "last", desc := "(III)Z" } : Jvm.MethodName)) ∈ lw_all := lw_g (lw_at lw_m1 218 rfl) rfl
theorem q228 : (Jvm.Cond.methodLink "SpeedRowsLaw" (26 : Nat) ({ cls := "SpeedRowsModel", name := "move", desc := "(II)I" } : Jvm.MethodName)) ∈ lw_all := lw_g (lw_at lw_m1 222 rfl) rfl
theorem q234 : (Jvm.Cond.methodLink "SpeedRowsLaw" (31 : Nat) ({ cls := "SpeedRowsModel", name := "back", desc := "(I)I" } : Jvm.MethodName)) ∈ lw_all := lw_g (lw_at lw_m1 228 rfl) rfl
theorem q238 : (Jvm.Cond.methodLink "SpeedRowsLaw" (36 : Nat) ({ cls := "SpeedRowsModel", name := "acceleration", desc := "(I)Z" } : Jvm.MethodName)) ∈ lw_all := lw_g (lw_at lw_m1 232 rfl) rfl
theorem q242 : (Jvm.Cond.methodLink "SpeedRowsLaw" (40 : Nat) ({ cls := "SpeedRowsModel", name := "limit", desc := "(I)I" } : Jvm.MethodName)) ∈ lw_all := lw_g (lw_at lw_m1 236 rfl) rfl
theorem q248 : (Jvm.Cond.methodLink "SpeedRowsLaw" (44 : Nat) ({ cls := "SpeedRowsModel", name := "speed", desc := "(I)I" } : Jvm.MethodName)) ∈ lw_all := lw_g (lw_at lw_m2 2 rfl) rfl
theorem q270 : (Jvm.Cond.methodLink "SpeedRowsLaw" (49 : Nat) ({ cls := "SpeedRowsModel", name := "sum", desc := "()J" } : Jvm.MethodName)) ∈ lw_all := lw_g (lw_at lw_m2 24 rfl) rfl
theorem q274 : (Jvm.Cond.methodLink "SpeedRowsLaw" (54 : Nat) ({ cls := "SpeedRowsModel", name := "below", desc := "()I" } : Jvm.MethodName)) ∈ lw_all := lw_g (lw_at lw_m2 28 rfl) rfl
theorem q22 : (Jvm.Cond.arrayOver (Jvm.ClassFile.FieldType.object "SpeedRows$Move")) ∈ lw_tbl := lw_at lw_m1 16 rfl
set_option maxRecDepth 100000
theorem q42 : (Jvm.Cond.arrayClass Jvm.ClassFile.FieldType.int) ∈ lw_all := lw_g (lw_at lw_m1 36 rfl) rfl
theorem q213 : (Jvm.Cond.arrayClass Jvm.ClassFile.FieldType.byte) ∈ lw_all := lw_g (lw_at lw_m1 207 rfl) rfl
end
section
/-! SpeedRows -/
set_option maxRecDepth 100000
def RX0 : String := "SpeedRows"
def TX0 : u_T := fun k => match k with
  | 0 => ("SpeedRows", "moves", "[LSpeedRows$Move;", true)
  | 1 => ("SpeedRows", "limits", "[I", true)
  | 2 => ("SpeedRows", "risen", "[I", true)
  | 3 => ("SpeedRows", "speeds", "[I", true)
  | 4 => ("SpeedRows", "count", "I", false)
  | 5 => ("SpeedRows", "acceleration", "I", false)
  | 6 => ("SpeedRows", "first", "LSpeedRows$Step;", false)
  | 7 => ("SpeedRows", "last", "LSpeedRows$Step;", false)
  | _ => ("SpeedRows", "isDone", "Z", false)
def tyX0 : Nat → FieldType := fun k => match k with
  | 0 => .array (.object "SpeedRows$Move")
  | 1 => .array .int
  | 2 => .array .int
  | 3 => .array .int
  | 4 => .int
  | 5 => .int
  | 6 => .object "SpeedRows$Step"
  | 7 => .object "SpeedRows$Step"
  | _ => .boolean
abbrev wsX00 : List Cond := u_ws RX0 TX0 9
theorem nmX0 : ∀ a, a < 9 → ∀ b, b < 9 → a ≠ b → (TX0 a).2.1 ≠ (TX0 b).2.1 := by decide +kernel
theorem tyX0_ok : ∀ k, k < 9 → parseFieldDescriptor (TX0 k).2.2.1 = some (tyX0 k) := by decide +kernel
abbrev cX0_init : ByteArray := prog_1_method_1_code
def yX0_init : MethodName := ⟨RX0, "<init>", "()V"⟩
theorem dX0_init_0 : decode cX0_init 0 = .ok (.aload_n 0, 1) := by decide +kernel
theorem dX0_init_1 : decode cX0_init 1 = .ok (.invokespecial 1, 3) := by decide +kernel
theorem dX0_init_4 : decode cX0_init 4 = .ok (.aload_n 0, 1) := by decide +kernel
theorem dX0_init_5 : decode cX0_init 5 = .ok (.sipush 2000, 3) := by decide +kernel
theorem dX0_init_8 : decode cX0_init 8 = .ok (.anewarray 9, 3) := by decide +kernel
theorem dX0_init_11 : decode cX0_init 11 = .ok (.putfield 11, 3) := by decide +kernel
theorem dX0_init_14 : decode cX0_init 14 = .ok (.aload_n 0, 1) := by decide +kernel
theorem dX0_init_15 : decode cX0_init 15 = .ok (.sipush 2001, 3) := by decide +kernel
theorem dX0_init_18 : decode cX0_init 18 = .ok (.newarray .int, 2) := by decide +kernel
theorem dX0_init_20 : decode cX0_init 20 = .ok (.putfield 15, 3) := by decide +kernel
theorem dX0_init_23 : decode cX0_init 23 = .ok (.aload_n 0, 1) := by decide +kernel
theorem dX0_init_24 : decode cX0_init 24 = .ok (.sipush 2001, 3) := by decide +kernel
theorem dX0_init_27 : decode cX0_init 27 = .ok (.newarray .int, 2) := by decide +kernel
theorem dX0_init_29 : decode cX0_init 29 = .ok (.putfield 19, 3) := by decide +kernel
theorem dX0_init_32 : decode cX0_init 32 = .ok (.aload_n 0, 1) := by decide +kernel
theorem dX0_init_33 : decode cX0_init 33 = .ok (.sipush 2001, 3) := by decide +kernel
theorem dX0_init_36 : decode cX0_init 36 = .ok (.newarray .int, 2) := by decide +kernel
theorem dX0_init_38 : decode cX0_init 38 = .ok (.putfield 22, 3) := by decide +kernel
theorem dX0_init_41 : decode cX0_init 41 = .ok (.aload_n 0, 1) := by decide +kernel
theorem dX0_init_42 : decode cX0_init 42 = .ok (.bipush 100, 2) := by decide +kernel
theorem dX0_init_44 : decode cX0_init 44 = .ok (.putfield 25, 3) := by decide +kernel
theorem dX0_init_47 : decode cX0_init 47 = .ok (.aload_n 0, 1) := by decide +kernel
theorem dX0_init_48 : decode cX0_init 48 = .ok (.new 29, 3) := by decide +kernel
theorem dX0_init_51 : decode cX0_init 51 = .ok (.dup, 1) := by decide +kernel
theorem dX0_init_52 : decode cX0_init 52 = .ok (.iconst 1, 1) := by decide +kernel
theorem dX0_init_53 : decode cX0_init 53 = .ok (.iconst 0, 1) := by decide +kernel
theorem dX0_init_54 : decode cX0_init 54 = .ok (.iconst 0, 1) := by decide +kernel
theorem dX0_init_55 : decode cX0_init 55 = .ok (.invokespecial 31, 3) := by decide +kernel
theorem dX0_init_58 : decode cX0_init 58 = .ok (.putfield 34, 3) := by decide +kernel
theorem dX0_init_61 : decode cX0_init 61 = .ok (.aload_n 0, 1) := by decide +kernel
theorem dX0_init_62 : decode cX0_init 62 = .ok (.new 29, 3) := by decide +kernel
theorem dX0_init_65 : decode cX0_init 65 = .ok (.dup, 1) := by decide +kernel
theorem dX0_init_66 : decode cX0_init 66 = .ok (.iconst 1, 1) := by decide +kernel
theorem dX0_init_67 : decode cX0_init 67 = .ok (.iconst 0, 1) := by decide +kernel
theorem dX0_init_68 : decode cX0_init 68 = .ok (.iconst 0, 1) := by decide +kernel
theorem dX0_init_69 : decode cX0_init 69 = .ok (.invokespecial 31, 3) := by decide +kernel
theorem dX0_init_72 : decode cX0_init 72 = .ok (.putfield 38, 3) := by decide +kernel
theorem dX0_init_75 : decode cX0_init 75 = .ok (.return_, 1) := by decide +kernel
abbrev cX0_first : ByteArray := prog_1_method_2_code
def yX0_first : MethodName := ⟨RX0, "first", "(III)Z"⟩
theorem dX0_first_0 : decode cX0_first 0 = .ok (.iload_n 1, 1) := by decide +kernel
theorem dX0_first_1 : decode cX0_first 1 = .ok (.iload_n 2, 1) := by decide +kernel
theorem dX0_first_2 : decode cX0_first 2 = .ok (.iload_n 3, 1) := by decide +kernel
theorem dX0_first_3 : decode cX0_first 3 = .ok (.invokestatic 41, 3) := by decide +kernel
theorem dX0_first_6 : decode cX0_first 6 = .ok (.ifCond .ne 5, 3) := by decide +kernel
theorem dX0_first_9 : decode cX0_first 9 = .ok (.iconst 0, 1) := by decide +kernel
theorem dX0_first_10 : decode cX0_first 10 = .ok (.ireturn, 1) := by decide +kernel
theorem dX0_first_11 : decode cX0_first 11 = .ok (.aload_n 0, 1) := by decide +kernel
theorem dX0_first_12 : decode cX0_first 12 = .ok (.new 29, 3) := by decide +kernel
theorem dX0_first_15 : decode cX0_first 15 = .ok (.dup, 1) := by decide +kernel
theorem dX0_first_16 : decode cX0_first 16 = .ok (.iload_n 1, 1) := by decide +kernel
theorem dX0_first_17 : decode cX0_first 17 = .ok (.iload_n 2, 1) := by decide +kernel
theorem dX0_first_18 : decode cX0_first 18 = .ok (.iload_n 3, 1) := by decide +kernel
theorem dX0_first_19 : decode cX0_first 19 = .ok (.invokespecial 31, 3) := by decide +kernel
theorem dX0_first_22 : decode cX0_first 22 = .ok (.putfield 34, 3) := by decide +kernel
theorem dX0_first_25 : decode cX0_first 25 = .ok (.iconst 1, 1) := by decide +kernel
theorem dX0_first_26 : decode cX0_first 26 = .ok (.ireturn, 1) := by decide +kernel
abbrev cX0_last : ByteArray := prog_1_method_3_code
def yX0_last : MethodName := ⟨RX0, "last", "(III)Z"⟩
theorem dX0_last_0 : decode cX0_last 0 = .ok (.iload_n 1, 1) := by decide +kernel
theorem dX0_last_1 : decode cX0_last 1 = .ok (.iload_n 2, 1) := by decide +kernel
theorem dX0_last_2 : decode cX0_last 2 = .ok (.iload_n 3, 1) := by decide +kernel
theorem dX0_last_3 : decode cX0_last 3 = .ok (.invokestatic 41, 3) := by decide +kernel
theorem dX0_last_6 : decode cX0_last 6 = .ok (.ifCond .ne 5, 3) := by decide +kernel
theorem dX0_last_9 : decode cX0_last 9 = .ok (.iconst 0, 1) := by decide +kernel
theorem dX0_last_10 : decode cX0_last 10 = .ok (.ireturn, 1) := by decide +kernel
theorem dX0_last_11 : decode cX0_last 11 = .ok (.aload_n 0, 1) := by decide +kernel
theorem dX0_last_12 : decode cX0_last 12 = .ok (.new 29, 3) := by decide +kernel
theorem dX0_last_15 : decode cX0_last 15 = .ok (.dup, 1) := by decide +kernel
theorem dX0_last_16 : decode cX0_last 16 = .ok (.iload_n 1, 1) := by decide +kernel
theorem dX0_last_17 : decode cX0_last 17 = .ok (.iload_n 2, 1) := by decide +kernel
theorem dX0_last_18 : decode cX0_last 18 = .ok (.iload_n 3, 1) := by decide +kernel
theorem dX0_last_19 : decode cX0_last 19 = .ok (.invokespecial 31, 3) := by decide +kernel
theorem dX0_last_22 : decode cX0_last 22 = .ok (.putfield 38, 3) := by decide +kernel
theorem dX0_last_25 : decode cX0_last 25 = .ok (.iconst 1, 1) := by decide +kernel
theorem dX0_last_26 : decode cX0_last 26 = .ok (.ireturn, 1) := by decide +kernel
abbrev cX0_move : ByteArray := prog_1_method_4_code
def yX0_move : MethodName := ⟨RX0, "move", "(II)I"⟩
theorem dX0_move_0 : decode cX0_move 0 = .ok (.iload_n 1, 1) := by decide +kernel
theorem dX0_move_1 : decode cX0_move 1 = .ok (.iconst 1, 1) := by decide +kernel
theorem dX0_move_2 : decode cX0_move 2 = .ok (.if_icmp .lt 30, 3) := by decide +kernel
theorem dX0_move_5 : decode cX0_move 5 = .ok (.iload_n 1, 1) := by decide +kernel
theorem dX0_move_6 : decode cX0_move 6 = .ok (.ldc 45, 2) := by decide +kernel
theorem dX0_move_8 : decode cX0_move 8 = .ok (.if_icmp .gt 24, 3) := by decide +kernel
theorem dX0_move_11 : decode cX0_move 11 = .ok (.iload_n 2, 1) := by decide +kernel
theorem dX0_move_12 : decode cX0_move 12 = .ok (.iconst 1, 1) := by decide +kernel
theorem dX0_move_13 : decode cX0_move 13 = .ok (.if_icmp .lt 19, 3) := by decide +kernel
theorem dX0_move_16 : decode cX0_move 16 = .ok (.iload_n 2, 1) := by decide +kernel
theorem dX0_move_17 : decode cX0_move 17 = .ok (.ldc 46, 2) := by decide +kernel
theorem dX0_move_19 : decode cX0_move 19 = .ok (.if_icmp .gt 13, 3) := by decide +kernel
theorem dX0_move_22 : decode cX0_move 22 = .ok (.aload_n 0, 1) := by decide +kernel
theorem dX0_move_23 : decode cX0_move 23 = .ok (.getfield 47, 3) := by decide +kernel
theorem dX0_move_26 : decode cX0_move 26 = .ok (.sipush 2000, 3) := by decide +kernel
theorem dX0_move_29 : decode cX0_move 29 = .ok (.if_icmp .ne 5, 3) := by decide +kernel
theorem dX0_move_32 : decode cX0_move 32 = .ok (.iconst (-1), 1) := by decide +kernel
theorem dX0_move_33 : decode cX0_move 33 = .ok (.ireturn, 1) := by decide +kernel
theorem dX0_move_34 : decode cX0_move 34 = .ok (.aload_n 0, 1) := by decide +kernel
theorem dX0_move_35 : decode cX0_move 35 = .ok (.getfield 11, 3) := by decide +kernel
theorem dX0_move_38 : decode cX0_move 38 = .ok (.aload_n 0, 1) := by decide +kernel
theorem dX0_move_39 : decode cX0_move 39 = .ok (.getfield 47, 3) := by decide +kernel
theorem dX0_move_42 : decode cX0_move 42 = .ok (.new 9, 3) := by decide +kernel
theorem dX0_move_45 : decode cX0_move 45 = .ok (.dup, 1) := by decide +kernel
theorem dX0_move_46 : decode cX0_move 46 = .ok (.iload_n 1, 1) := by decide +kernel
theorem dX0_move_47 : decode cX0_move 47 = .ok (.iload_n 2, 1) := by decide +kernel
theorem dX0_move_48 : decode cX0_move 48 = .ok (.aload_n 0, 1) := by decide +kernel
theorem dX0_move_49 : decode cX0_move 49 = .ok (.getfield 34, 3) := by decide +kernel
theorem dX0_move_52 : decode cX0_move 52 = .ok (.aload_n 0, 1) := by decide +kernel
theorem dX0_move_53 : decode cX0_move 53 = .ok (.getfield 38, 3) := by decide +kernel
theorem dX0_move_56 : decode cX0_move 56 = .ok (.invokespecial 50, 3) := by decide +kernel
theorem dX0_move_59 : decode cX0_move 59 = .ok (.aastore, 1) := by decide +kernel
theorem dX0_move_60 : decode cX0_move 60 = .ok (.aload_n 0, 1) := by decide +kernel
theorem dX0_move_61 : decode cX0_move 61 = .ok (.getfield 47, 3) := by decide +kernel
theorem dX0_move_64 : decode cX0_move 64 = .ok (.ifCond .le 85, 3) := by decide +kernel
theorem dX0_move_67 : decode cX0_move 67 = .ok (.aload_n 0, 1) := by decide +kernel
theorem dX0_move_68 : decode cX0_move 68 = .ok (.getfield 15, 3) := by decide +kernel
theorem dX0_move_71 : decode cX0_move 71 = .ok (.aload_n 0, 1) := by decide +kernel
theorem dX0_move_72 : decode cX0_move 72 = .ok (.getfield 47, 3) := by decide +kernel
theorem dX0_move_75 : decode cX0_move 75 = .ok (.aload_n 0, 1) := by decide +kernel
theorem dX0_move_76 : decode cX0_move 76 = .ok (.getfield 11, 3) := by decide +kernel
theorem dX0_move_79 : decode cX0_move 79 = .ok (.aload_n 0, 1) := by decide +kernel
theorem dX0_move_80 : decode cX0_move 80 = .ok (.getfield 47, 3) := by decide +kernel
theorem dX0_move_83 : decode cX0_move 83 = .ok (.iconst 1, 1) := by decide +kernel
theorem dX0_move_84 : decode cX0_move 84 = .ok (.isub, 1) := by decide +kernel
theorem dX0_move_85 : decode cX0_move 85 = .ok (.aaload, 1) := by decide +kernel
theorem dX0_move_86 : decode cX0_move 86 = .ok (.aload_n 0, 1) := by decide +kernel
theorem dX0_move_87 : decode cX0_move 87 = .ok (.getfield 11, 3) := by decide +kernel
theorem dX0_move_90 : decode cX0_move 90 = .ok (.aload_n 0, 1) := by decide +kernel
theorem dX0_move_91 : decode cX0_move 91 = .ok (.getfield 47, 3) := by decide +kernel
theorem dX0_move_94 : decode cX0_move 94 = .ok (.aaload, 1) := by decide +kernel
theorem dX0_move_95 : decode cX0_move 95 = .ok (.invokestatic 53, 3) := by decide +kernel
theorem dX0_move_98 : decode cX0_move 98 = .ok (.iastore, 1) := by decide +kernel
theorem dX0_move_99 : decode cX0_move 99 = .ok (.aload_n 0, 1) := by decide +kernel
theorem dX0_move_100 : decode cX0_move 100 = .ok (.getfield 19, 3) := by decide +kernel
theorem dX0_move_103 : decode cX0_move 103 = .ok (.aload_n 0, 1) := by decide +kernel
theorem dX0_move_104 : decode cX0_move 104 = .ok (.getfield 47, 3) := by decide +kernel
theorem dX0_move_107 : decode cX0_move 107 = .ok (.aload_n 0, 1) := by decide +kernel
theorem dX0_move_108 : decode cX0_move 108 = .ok (.getfield 15, 3) := by decide +kernel
theorem dX0_move_111 : decode cX0_move 111 = .ok (.aload_n 0, 1) := by decide +kernel
theorem dX0_move_112 : decode cX0_move 112 = .ok (.getfield 47, 3) := by decide +kernel
theorem dX0_move_115 : decode cX0_move 115 = .ok (.iaload, 1) := by decide +kernel
theorem dX0_move_116 : decode cX0_move 116 = .ok (.aload_n 0, 1) := by decide +kernel
theorem dX0_move_117 : decode cX0_move 117 = .ok (.aload_n 0, 1) := by decide +kernel
theorem dX0_move_118 : decode cX0_move 118 = .ok (.getfield 19, 3) := by decide +kernel
theorem dX0_move_121 : decode cX0_move 121 = .ok (.aload_n 0, 1) := by decide +kernel
theorem dX0_move_122 : decode cX0_move 122 = .ok (.getfield 47, 3) := by decide +kernel
theorem dX0_move_125 : decode cX0_move 125 = .ok (.iconst 1, 1) := by decide +kernel
theorem dX0_move_126 : decode cX0_move 126 = .ok (.isub, 1) := by decide +kernel
theorem dX0_move_127 : decode cX0_move 127 = .ok (.iaload, 1) := by decide +kernel
theorem dX0_move_128 : decode cX0_move 128 = .ok (.aload_n 0, 1) := by decide +kernel
theorem dX0_move_129 : decode cX0_move 129 = .ok (.getfield 11, 3) := by decide +kernel
theorem dX0_move_132 : decode cX0_move 132 = .ok (.aload_n 0, 1) := by decide +kernel
theorem dX0_move_133 : decode cX0_move 133 = .ok (.getfield 47, 3) := by decide +kernel
theorem dX0_move_136 : decode cX0_move 136 = .ok (.iconst 1, 1) := by decide +kernel
theorem dX0_move_137 : decode cX0_move 137 = .ok (.isub, 1) := by decide +kernel
theorem dX0_move_138 : decode cX0_move 138 = .ok (.aaload, 1) := by decide +kernel
theorem dX0_move_139 : decode cX0_move 139 = .ok (.invokevirtual 57, 3) := by decide +kernel
theorem dX0_move_142 : decode cX0_move 142 = .ok (.invokevirtual 61, 3) := by decide +kernel
theorem dX0_move_145 : decode cX0_move 145 = .ok (.invokestatic 65, 3) := by decide +kernel
theorem dX0_move_148 : decode cX0_move 148 = .ok (.iastore, 1) := by decide +kernel
theorem dX0_move_149 : decode cX0_move 149 = .ok (.aload_n 0, 1) := by decide +kernel
theorem dX0_move_150 : decode cX0_move 150 = .ok (.dup, 1) := by decide +kernel
theorem dX0_move_151 : decode cX0_move 151 = .ok (.getfield 47, 3) := by decide +kernel
theorem dX0_move_154 : decode cX0_move 154 = .ok (.iconst 1, 1) := by decide +kernel
theorem dX0_move_155 : decode cX0_move 155 = .ok (.iadd, 1) := by decide +kernel
theorem dX0_move_156 : decode cX0_move 156 = .ok (.putfield 47, 3) := by decide +kernel
theorem dX0_move_159 : decode cX0_move 159 = .ok (.aload_n 0, 1) := by decide +kernel
theorem dX0_move_160 : decode cX0_move 160 = .ok (.iconst 0, 1) := by decide +kernel
theorem dX0_move_161 : decode cX0_move 161 = .ok (.putfield 70, 3) := by decide +kernel
theorem dX0_move_164 : decode cX0_move 164 = .ok (.aload_n 0, 1) := by decide +kernel
theorem dX0_move_165 : decode cX0_move 165 = .ok (.getfield 47, 3) := by decide +kernel
theorem dX0_move_168 : decode cX0_move 168 = .ok (.ireturn, 1) := by decide +kernel
abbrev cX0_corner : ByteArray := prog_1_method_5_code
def yX0_corner : MethodName := ⟨RX0, "corner", "(LSpeedRows$Move;LSpeedRows$Move;)I"⟩
theorem dX0_corner_0 : decode cX0_corner 0 = .ok (.iconst 0, 1) := by decide +kernel
theorem dX0_corner_1 : decode cX0_corner 1 = .ok (.aload_n 0, 1) := by decide +kernel
theorem dX0_corner_2 : decode cX0_corner 2 = .ok (.invokevirtual 74, 3) := by decide +kernel
theorem dX0_corner_5 : decode cX0_corner 5 = .ok (.aload_n 1, 1) := by decide +kernel
theorem dX0_corner_6 : decode cX0_corner 6 = .ok (.invokevirtual 77, 3) := by decide +kernel
theorem dX0_corner_9 : decode cX0_corner 9 = .ok (.invokevirtual 79, 3) := by decide +kernel
theorem dX0_corner_12 : decode cX0_corner 12 = .ok (.invokestatic 83, 3) := by decide +kernel
theorem dX0_corner_15 : decode cX0_corner 15 = .ok (.istore_n 2, 1) := by decide +kernel
theorem dX0_corner_16 : decode cX0_corner 16 = .ok (.aload_n 0, 1) := by decide +kernel
theorem dX0_corner_17 : decode cX0_corner 17 = .ok (.invokevirtual 74, 3) := by decide +kernel
theorem dX0_corner_20 : decode cX0_corner 20 = .ok (.aload_n 0, 1) := by decide +kernel
theorem dX0_corner_21 : decode cX0_corner 21 = .ok (.invokevirtual 74, 3) := by decide +kernel
theorem dX0_corner_24 : decode cX0_corner 24 = .ok (.invokevirtual 79, 3) := by decide +kernel
theorem dX0_corner_27 : decode cX0_corner 27 = .ok (.aload_n 1, 1) := by decide +kernel
theorem dX0_corner_28 : decode cX0_corner 28 = .ok (.invokevirtual 77, 3) := by decide +kernel
theorem dX0_corner_31 : decode cX0_corner 31 = .ok (.aload_n 1, 1) := by decide +kernel
theorem dX0_corner_32 : decode cX0_corner 32 = .ok (.invokevirtual 77, 3) := by decide +kernel
theorem dX0_corner_35 : decode cX0_corner 35 = .ok (.invokevirtual 79, 3) := by decide +kernel
theorem dX0_corner_38 : decode cX0_corner 38 = .ok (.invokestatic 83, 3) := by decide +kernel
theorem dX0_corner_41 : decode cX0_corner 41 = .ok (.istore_n 3, 1) := by decide +kernel
theorem dX0_corner_42 : decode cX0_corner 42 = .ok (.aload_n 0, 1) := by decide +kernel
theorem dX0_corner_43 : decode cX0_corner 43 = .ok (.invokevirtual 86, 3) := by decide +kernel
theorem dX0_corner_46 : decode cX0_corner 46 = .ok (.aload_n 1, 1) := by decide +kernel
theorem dX0_corner_47 : decode cX0_corner 47 = .ok (.invokevirtual 86, 3) := by decide +kernel
theorem dX0_corner_50 : decode cX0_corner 50 = .ok (.invokestatic 65, 3) := by decide +kernel
theorem dX0_corner_53 : decode cX0_corner 53 = .ok (.iload_n 2, 1) := by decide +kernel
theorem dX0_corner_54 : decode cX0_corner 54 = .ok (.imul, 1) := by decide +kernel
theorem dX0_corner_55 : decode cX0_corner 55 = .ok (.iload_n 3, 1) := by decide +kernel
theorem dX0_corner_56 : decode cX0_corner 56 = .ok (.idiv, 1) := by decide +kernel
theorem dX0_corner_57 : decode cX0_corner 57 = .ok (.ireturn, 1) := by decide +kernel
abbrev cX0_reached : ByteArray := prog_1_method_6_code
def yX0_reached : MethodName := ⟨RX0, "reached", "(II)I"⟩
theorem dX0_reached_0 : decode cX0_reached 0 = .ok (.iload_n 1, 1) := by decide +kernel
theorem dX0_reached_1 : decode cX0_reached 1 = .ok (.i2l, 1) := by decide +kernel
theorem dX0_reached_2 : decode cX0_reached 2 = .ok (.iload_n 1, 1) := by decide +kernel
theorem dX0_reached_3 : decode cX0_reached 3 = .ok (.i2l, 1) := by decide +kernel
theorem dX0_reached_4 : decode cX0_reached 4 = .ok (.lmul, 1) := by decide +kernel
theorem dX0_reached_5 : decode cX0_reached 5 = .ok (.ldc2_w 89, 3) := by decide +kernel
theorem dX0_reached_8 : decode cX0_reached 8 = .ok (.aload_n 0, 1) := by decide +kernel
theorem dX0_reached_9 : decode cX0_reached 9 = .ok (.getfield 25, 3) := by decide +kernel
theorem dX0_reached_12 : decode cX0_reached 12 = .ok (.i2l, 1) := by decide +kernel
theorem dX0_reached_13 : decode cX0_reached 13 = .ok (.lmul, 1) := by decide +kernel
theorem dX0_reached_14 : decode cX0_reached 14 = .ok (.iload_n 2, 1) := by decide +kernel
theorem dX0_reached_15 : decode cX0_reached 15 = .ok (.i2l, 1) := by decide +kernel
theorem dX0_reached_16 : decode cX0_reached 16 = .ok (.lmul, 1) := by decide +kernel
theorem dX0_reached_17 : decode cX0_reached 17 = .ok (.ladd, 1) := by decide +kernel
theorem dX0_reached_18 : decode cX0_reached 18 = .ok (.invokestatic 91, 3) := by decide +kernel
theorem dX0_reached_21 : decode cX0_reached 21 = .ok (.ireturn, 1) := by decide +kernel
abbrev cX0_root : ByteArray := prog_1_method_7_code
def yX0_root : MethodName := ⟨RX0, "root", "(J)I"⟩
theorem dX0_root_0 : decode cX0_root 0 = .ok (.lconst 0, 1) := by decide +kernel
theorem dX0_root_1 : decode cX0_root 1 = .ok (.lstore_n 2, 1) := by decide +kernel
theorem dX0_root_2 : decode cX0_root 2 = .ok (.bipush 30, 2) := by decide +kernel
theorem dX0_root_4 : decode cX0_root 4 = .ok (.istore 4, 2) := by decide +kernel
theorem dX0_root_6 : decode cX0_root 6 = .ok (.iload 4, 2) := by decide +kernel
theorem dX0_root_8 : decode cX0_root 8 = .ok (.ifCond .lt 30, 3) := by decide +kernel
theorem dX0_root_11 : decode cX0_root 11 = .ok (.lload_n 2, 1) := by decide +kernel
theorem dX0_root_12 : decode cX0_root 12 = .ok (.lconst 1, 1) := by decide +kernel
theorem dX0_root_13 : decode cX0_root 13 = .ok (.iload 4, 2) := by decide +kernel
theorem dX0_root_15 : decode cX0_root 15 = .ok (.lshl, 1) := by decide +kernel
theorem dX0_root_16 : decode cX0_root 16 = .ok (.lor, 1) := by decide +kernel
theorem dX0_root_17 : decode cX0_root 17 = .ok (.lstore 5, 2) := by decide +kernel
theorem dX0_root_19 : decode cX0_root 19 = .ok (.lload 5, 2) := by decide +kernel
theorem dX0_root_21 : decode cX0_root 21 = .ok (.lload 5, 2) := by decide +kernel
theorem dX0_root_23 : decode cX0_root 23 = .ok (.lmul, 1) := by decide +kernel
theorem dX0_root_24 : decode cX0_root 24 = .ok (.lload_n 0, 1) := by decide +kernel
theorem dX0_root_25 : decode cX0_root 25 = .ok (.lcmp, 1) := by decide +kernel
theorem dX0_root_26 : decode cX0_root 26 = .ok (.ifCond .gt 6, 3) := by decide +kernel
theorem dX0_root_29 : decode cX0_root 29 = .ok (.lload 5, 2) := by decide +kernel
theorem dX0_root_31 : decode cX0_root 31 = .ok (.lstore_n 2, 1) := by decide +kernel
theorem dX0_root_32 : decode cX0_root 32 = .ok (.iinc 4 (-1), 3) := by decide +kernel
theorem dX0_root_35 : decode cX0_root 35 = .ok (.goto (-29), 3) := by decide +kernel
theorem dX0_root_38 : decode cX0_root 38 = .ok (.lload_n 2, 1) := by decide +kernel
theorem dX0_root_39 : decode cX0_root 39 = .ok (.l2i, 1) := by decide +kernel
theorem dX0_root_40 : decode cX0_root 40 = .ok (.ireturn, 1) := by decide +kernel
abbrev cX0_back : ByteArray := prog_1_method_8_code
def yX0_back : MethodName := ⟨RX0, "back", "(I)I"⟩
theorem dX0_back_0 : decode cX0_back 0 = .ok (.iload_n 1, 1) := by decide +kernel
theorem dX0_back_1 : decode cX0_back 1 = .ok (.ifCond .lt 11, 3) := by decide +kernel
theorem dX0_back_4 : decode cX0_back 4 = .ok (.iload_n 1, 1) := by decide +kernel
theorem dX0_back_5 : decode cX0_back 5 = .ok (.aload_n 0, 1) := by decide +kernel
theorem dX0_back_6 : decode cX0_back 6 = .ok (.getfield 47, 3) := by decide +kernel
theorem dX0_back_9 : decode cX0_back 9 = .ok (.if_icmp .le 5, 3) := by decide +kernel
theorem dX0_back_12 : decode cX0_back 12 = .ok (.iconst (-1), 1) := by decide +kernel
theorem dX0_back_13 : decode cX0_back 13 = .ok (.ireturn, 1) := by decide +kernel
theorem dX0_back_14 : decode cX0_back 14 = .ok (.aload_n 0, 1) := by decide +kernel
theorem dX0_back_15 : decode cX0_back 15 = .ok (.dup, 1) := by decide +kernel
theorem dX0_back_16 : decode cX0_back 16 = .ok (.getfield 47, 3) := by decide +kernel
theorem dX0_back_19 : decode cX0_back 19 = .ok (.iload_n 1, 1) := by decide +kernel
theorem dX0_back_20 : decode cX0_back 20 = .ok (.isub, 1) := by decide +kernel
theorem dX0_back_21 : decode cX0_back 21 = .ok (.putfield 47, 3) := by decide +kernel
theorem dX0_back_24 : decode cX0_back 24 = .ok (.aload_n 0, 1) := by decide +kernel
theorem dX0_back_25 : decode cX0_back 25 = .ok (.iconst 0, 1) := by decide +kernel
theorem dX0_back_26 : decode cX0_back 26 = .ok (.putfield 70, 3) := by decide +kernel
theorem dX0_back_29 : decode cX0_back 29 = .ok (.aload_n 0, 1) := by decide +kernel
theorem dX0_back_30 : decode cX0_back 30 = .ok (.getfield 47, 3) := by decide +kernel
theorem dX0_back_33 : decode cX0_back 33 = .ok (.ireturn, 1) := by decide +kernel
abbrev cX0_acceleration : ByteArray := prog_1_method_9_code
def yX0_acceleration : MethodName := ⟨RX0, "acceleration", "(I)Z"⟩
theorem dX0_acceleration_0 : decode cX0_acceleration 0 = .ok (.iload_n 1, 1) := by decide +kernel
theorem dX0_acceleration_1 : decode cX0_acceleration 1 = .ok (.iconst 1, 1) := by decide +kernel
theorem dX0_acceleration_2 : decode cX0_acceleration 2 = .ok (.if_icmp .lt 10, 3) := by decide +kernel
theorem dX0_acceleration_5 : decode cX0_acceleration 5 = .ok (.iload_n 1, 1) := by decide +kernel
theorem dX0_acceleration_6 : decode cX0_acceleration 6 = .ok (.sipush 10000, 3) := by decide +kernel
theorem dX0_acceleration_9 : decode cX0_acceleration 9 = .ok (.if_icmp .le 5, 3) := by decide +kernel
theorem dX0_acceleration_12 : decode cX0_acceleration 12 = .ok (.iconst 0, 1) := by decide +kernel
theorem dX0_acceleration_13 : decode cX0_acceleration 13 = .ok (.ireturn, 1) := by decide +kernel
theorem dX0_acceleration_14 : decode cX0_acceleration 14 = .ok (.aload_n 0, 1) := by decide +kernel
theorem dX0_acceleration_15 : decode cX0_acceleration 15 = .ok (.iload_n 1, 1) := by decide +kernel
theorem dX0_acceleration_16 : decode cX0_acceleration 16 = .ok (.putfield 25, 3) := by decide +kernel
theorem dX0_acceleration_19 : decode cX0_acceleration 19 = .ok (.iconst 1, 1) := by decide +kernel
theorem dX0_acceleration_20 : decode cX0_acceleration 20 = .ok (.istore_n 2, 1) := by decide +kernel
theorem dX0_acceleration_21 : decode cX0_acceleration 21 = .ok (.iload_n 2, 1) := by decide +kernel
theorem dX0_acceleration_22 : decode cX0_acceleration 22 = .ok (.aload_n 0, 1) := by decide +kernel
theorem dX0_acceleration_23 : decode cX0_acceleration 23 = .ok (.getfield 47, 3) := by decide +kernel
theorem dX0_acceleration_26 : decode cX0_acceleration 26 = .ok (.if_icmp .ge 47, 3) := by decide +kernel
theorem dX0_acceleration_29 : decode cX0_acceleration 29 = .ok (.aload_n 0, 1) := by decide +kernel
theorem dX0_acceleration_30 : decode cX0_acceleration 30 = .ok (.getfield 19, 3) := by decide +kernel
theorem dX0_acceleration_33 : decode cX0_acceleration 33 = .ok (.iload_n 2, 1) := by decide +kernel
theorem dX0_acceleration_34 : decode cX0_acceleration 34 = .ok (.aload_n 0, 1) := by decide +kernel
theorem dX0_acceleration_35 : decode cX0_acceleration 35 = .ok (.getfield 15, 3) := by decide +kernel
theorem dX0_acceleration_38 : decode cX0_acceleration 38 = .ok (.iload_n 2, 1) := by decide +kernel
theorem dX0_acceleration_39 : decode cX0_acceleration 39 = .ok (.iaload, 1) := by decide +kernel
theorem dX0_acceleration_40 : decode cX0_acceleration 40 = .ok (.aload_n 0, 1) := by decide +kernel
theorem dX0_acceleration_41 : decode cX0_acceleration 41 = .ok (.aload_n 0, 1) := by decide +kernel
theorem dX0_acceleration_42 : decode cX0_acceleration 42 = .ok (.getfield 19, 3) := by decide +kernel
theorem dX0_acceleration_45 : decode cX0_acceleration 45 = .ok (.iload_n 2, 1) := by decide +kernel
theorem dX0_acceleration_46 : decode cX0_acceleration 46 = .ok (.iconst 1, 1) := by decide +kernel
theorem dX0_acceleration_47 : decode cX0_acceleration 47 = .ok (.isub, 1) := by decide +kernel
theorem dX0_acceleration_48 : decode cX0_acceleration 48 = .ok (.iaload, 1) := by decide +kernel
theorem dX0_acceleration_49 : decode cX0_acceleration 49 = .ok (.aload_n 0, 1) := by decide +kernel
theorem dX0_acceleration_50 : decode cX0_acceleration 50 = .ok (.getfield 11, 3) := by decide +kernel
theorem dX0_acceleration_53 : decode cX0_acceleration 53 = .ok (.iload_n 2, 1) := by decide +kernel
theorem dX0_acceleration_54 : decode cX0_acceleration 54 = .ok (.iconst 1, 1) := by decide +kernel
theorem dX0_acceleration_55 : decode cX0_acceleration 55 = .ok (.isub, 1) := by decide +kernel
theorem dX0_acceleration_56 : decode cX0_acceleration 56 = .ok (.aaload, 1) := by decide +kernel
theorem dX0_acceleration_57 : decode cX0_acceleration 57 = .ok (.invokevirtual 57, 3) := by decide +kernel
theorem dX0_acceleration_60 : decode cX0_acceleration 60 = .ok (.invokevirtual 61, 3) := by decide +kernel
theorem dX0_acceleration_63 : decode cX0_acceleration 63 = .ok (.invokestatic 65, 3) := by decide +kernel
theorem dX0_acceleration_66 : decode cX0_acceleration 66 = .ok (.iastore, 1) := by decide +kernel
theorem dX0_acceleration_67 : decode cX0_acceleration 67 = .ok (.iinc 2 1, 3) := by decide +kernel
theorem dX0_acceleration_70 : decode cX0_acceleration 70 = .ok (.goto (-49), 3) := by decide +kernel
theorem dX0_acceleration_73 : decode cX0_acceleration 73 = .ok (.aload_n 0, 1) := by decide +kernel
theorem dX0_acceleration_74 : decode cX0_acceleration 74 = .ok (.iconst 0, 1) := by decide +kernel
theorem dX0_acceleration_75 : decode cX0_acceleration 75 = .ok (.putfield 70, 3) := by decide +kernel
theorem dX0_acceleration_78 : decode cX0_acceleration 78 = .ok (.iconst 1, 1) := by decide +kernel
theorem dX0_acceleration_79 : decode cX0_acceleration 79 = .ok (.ireturn, 1) := by decide +kernel
abbrev cX0_limit : ByteArray := prog_1_method_11_code
def yX0_limit : MethodName := ⟨RX0, "limit", "(I)I"⟩
theorem dX0_limit_0 : decode cX0_limit 0 = .ok (.aload_n 0, 1) := by decide +kernel
theorem dX0_limit_1 : decode cX0_limit 1 = .ok (.iload_n 1, 1) := by decide +kernel
theorem dX0_limit_2 : decode cX0_limit 2 = .ok (.invokevirtual 95, 3) := by decide +kernel
theorem dX0_limit_5 : decode cX0_limit 5 = .ok (.ifCond .ne 7, 3) := by decide +kernel
theorem dX0_limit_8 : decode cX0_limit 8 = .ok (.iconst (-1), 1) := by decide +kernel
theorem dX0_limit_9 : decode cX0_limit 9 = .ok (.goto 25, 3) := by decide +kernel
theorem dX0_limit_12 : decode cX0_limit 12 = .ok (.iload_n 1, 1) := by decide +kernel
theorem dX0_limit_13 : decode cX0_limit 13 = .ok (.ifCond .eq 11, 3) := by decide +kernel
theorem dX0_limit_16 : decode cX0_limit 16 = .ok (.iload_n 1, 1) := by decide +kernel
theorem dX0_limit_17 : decode cX0_limit 17 = .ok (.aload_n 0, 1) := by decide +kernel
theorem dX0_limit_18 : decode cX0_limit 18 = .ok (.getfield 47, 3) := by decide +kernel
theorem dX0_limit_21 : decode cX0_limit 21 = .ok (.if_icmp .ne 7, 3) := by decide +kernel
theorem dX0_limit_24 : decode cX0_limit 24 = .ok (.iconst 0, 1) := by decide +kernel
theorem dX0_limit_25 : decode cX0_limit 25 = .ok (.goto 9, 3) := by decide +kernel
theorem dX0_limit_28 : decode cX0_limit 28 = .ok (.aload_n 0, 1) := by decide +kernel
theorem dX0_limit_29 : decode cX0_limit 29 = .ok (.getfield 15, 3) := by decide +kernel
theorem dX0_limit_32 : decode cX0_limit 32 = .ok (.iload_n 1, 1) := by decide +kernel
theorem dX0_limit_33 : decode cX0_limit 33 = .ok (.iaload, 1) := by decide +kernel
theorem dX0_limit_34 : decode cX0_limit 34 = .ok (.ireturn, 1) := by decide +kernel
abbrev cX0_isCorner : ByteArray := prog_1_method_10_code
def yX0_isCorner : MethodName := ⟨RX0, "isCorner", "(I)Z"⟩
theorem dX0_isCorner_0 : decode cX0_isCorner 0 = .ok (.iload_n 1, 1) := by decide +kernel
theorem dX0_isCorner_1 : decode cX0_isCorner 1 = .ok (.ifCond .lt 15, 3) := by decide +kernel
theorem dX0_isCorner_4 : decode cX0_isCorner 4 = .ok (.iload_n 1, 1) := by decide +kernel
theorem dX0_isCorner_5 : decode cX0_isCorner 5 = .ok (.aload_n 0, 1) := by decide +kernel
theorem dX0_isCorner_6 : decode cX0_isCorner 6 = .ok (.getfield 47, 3) := by decide +kernel
theorem dX0_isCorner_9 : decode cX0_isCorner 9 = .ok (.if_icmp .gt 7, 3) := by decide +kernel
theorem dX0_isCorner_12 : decode cX0_isCorner 12 = .ok (.iconst 1, 1) := by decide +kernel
theorem dX0_isCorner_13 : decode cX0_isCorner 13 = .ok (.goto 4, 3) := by decide +kernel
theorem dX0_isCorner_16 : decode cX0_isCorner 16 = .ok (.iconst 0, 1) := by decide +kernel
theorem dX0_isCorner_17 : decode cX0_isCorner 17 = .ok (.ireturn, 1) := by decide +kernel
abbrev cX0_speed : ByteArray := prog_1_method_13_code
def yX0_speed : MethodName := ⟨RX0, "speed", "(I)I"⟩
theorem dX0_speed_0 : decode cX0_speed 0 = .ok (.aload_n 0, 1) := by decide +kernel
theorem dX0_speed_1 : decode cX0_speed 1 = .ok (.iload_n 1, 1) := by decide +kernel
theorem dX0_speed_2 : decode cX0_speed 2 = .ok (.invokevirtual 95, 3) := by decide +kernel
theorem dX0_speed_5 : decode cX0_speed 5 = .ok (.ifCond .ne 5, 3) := by decide +kernel
theorem dX0_speed_8 : decode cX0_speed 8 = .ok (.iconst (-1), 1) := by decide +kernel
theorem dX0_speed_9 : decode cX0_speed 9 = .ok (.ireturn, 1) := by decide +kernel
theorem dX0_speed_10 : decode cX0_speed 10 = .ok (.aload_n 0, 1) := by decide +kernel
theorem dX0_speed_11 : decode cX0_speed 11 = .ok (.invokevirtual 99, 3) := by decide +kernel
theorem dX0_speed_14 : decode cX0_speed 14 = .ok (.aload_n 0, 1) := by decide +kernel
theorem dX0_speed_15 : decode cX0_speed 15 = .ok (.getfield 22, 3) := by decide +kernel
theorem dX0_speed_18 : decode cX0_speed 18 = .ok (.iload_n 1, 1) := by decide +kernel
theorem dX0_speed_19 : decode cX0_speed 19 = .ok (.iaload, 1) := by decide +kernel
theorem dX0_speed_20 : decode cX0_speed 20 = .ok (.ireturn, 1) := by decide +kernel
abbrev cX0_fall : ByteArray := prog_1_method_12_code
def yX0_fall : MethodName := ⟨RX0, "fall", "()V"⟩
theorem dX0_fall_0 : decode cX0_fall 0 = .ok (.aload_n 0, 1) := by decide +kernel
theorem dX0_fall_1 : decode cX0_fall 1 = .ok (.getfield 70, 3) := by decide +kernel
theorem dX0_fall_4 : decode cX0_fall 4 = .ok (.ifCond .eq 4, 3) := by decide +kernel
theorem dX0_fall_7 : decode cX0_fall 7 = .ok (.return_, 1) := by decide +kernel
theorem dX0_fall_8 : decode cX0_fall 8 = .ok (.aload_n 0, 1) := by decide +kernel
theorem dX0_fall_9 : decode cX0_fall 9 = .ok (.getfield 22, 3) := by decide +kernel
theorem dX0_fall_12 : decode cX0_fall 12 = .ok (.aload_n 0, 1) := by decide +kernel
theorem dX0_fall_13 : decode cX0_fall 13 = .ok (.getfield 47, 3) := by decide +kernel
theorem dX0_fall_16 : decode cX0_fall 16 = .ok (.iconst 0, 1) := by decide +kernel
theorem dX0_fall_17 : decode cX0_fall 17 = .ok (.iastore, 1) := by decide +kernel
theorem dX0_fall_18 : decode cX0_fall 18 = .ok (.aload_n 0, 1) := by decide +kernel
theorem dX0_fall_19 : decode cX0_fall 19 = .ok (.getfield 47, 3) := by decide +kernel
theorem dX0_fall_22 : decode cX0_fall 22 = .ok (.iconst 1, 1) := by decide +kernel
theorem dX0_fall_23 : decode cX0_fall 23 = .ok (.isub, 1) := by decide +kernel
theorem dX0_fall_24 : decode cX0_fall 24 = .ok (.istore_n 1, 1) := by decide +kernel
theorem dX0_fall_25 : decode cX0_fall 25 = .ok (.iload_n 1, 1) := by decide +kernel
theorem dX0_fall_26 : decode cX0_fall 26 = .ok (.ifCond .lt 53, 3) := by decide +kernel
theorem dX0_fall_29 : decode cX0_fall 29 = .ok (.aload_n 0, 1) := by decide +kernel
theorem dX0_fall_30 : decode cX0_fall 30 = .ok (.getfield 22, 3) := by decide +kernel
theorem dX0_fall_33 : decode cX0_fall 33 = .ok (.iload_n 1, 1) := by decide +kernel
theorem dX0_fall_34 : decode cX0_fall 34 = .ok (.iload_n 1, 1) := by decide +kernel
theorem dX0_fall_35 : decode cX0_fall 35 = .ok (.ifCond .ne 7, 3) := by decide +kernel
theorem dX0_fall_38 : decode cX0_fall 38 = .ok (.iconst 0, 1) := by decide +kernel
theorem dX0_fall_39 : decode cX0_fall 39 = .ok (.goto 33, 3) := by decide +kernel
theorem dX0_fall_42 : decode cX0_fall 42 = .ok (.aload_n 0, 1) := by decide +kernel
theorem dX0_fall_43 : decode cX0_fall 43 = .ok (.getfield 19, 3) := by decide +kernel
theorem dX0_fall_46 : decode cX0_fall 46 = .ok (.iload_n 1, 1) := by decide +kernel
theorem dX0_fall_47 : decode cX0_fall 47 = .ok (.iaload, 1) := by decide +kernel
theorem dX0_fall_48 : decode cX0_fall 48 = .ok (.aload_n 0, 1) := by decide +kernel
theorem dX0_fall_49 : decode cX0_fall 49 = .ok (.aload_n 0, 1) := by decide +kernel
theorem dX0_fall_50 : decode cX0_fall 50 = .ok (.getfield 22, 3) := by decide +kernel
theorem dX0_fall_53 : decode cX0_fall 53 = .ok (.iload_n 1, 1) := by decide +kernel
theorem dX0_fall_54 : decode cX0_fall 54 = .ok (.iconst 1, 1) := by decide +kernel
theorem dX0_fall_55 : decode cX0_fall 55 = .ok (.iadd, 1) := by decide +kernel
theorem dX0_fall_56 : decode cX0_fall 56 = .ok (.iaload, 1) := by decide +kernel
theorem dX0_fall_57 : decode cX0_fall 57 = .ok (.aload_n 0, 1) := by decide +kernel
theorem dX0_fall_58 : decode cX0_fall 58 = .ok (.getfield 11, 3) := by decide +kernel
theorem dX0_fall_61 : decode cX0_fall 61 = .ok (.iload_n 1, 1) := by decide +kernel
theorem dX0_fall_62 : decode cX0_fall 62 = .ok (.aaload, 1) := by decide +kernel
theorem dX0_fall_63 : decode cX0_fall 63 = .ok (.invokevirtual 57, 3) := by decide +kernel
theorem dX0_fall_66 : decode cX0_fall 66 = .ok (.invokevirtual 61, 3) := by decide +kernel
theorem dX0_fall_69 : decode cX0_fall 69 = .ok (.invokestatic 65, 3) := by decide +kernel
theorem dX0_fall_72 : decode cX0_fall 72 = .ok (.iastore, 1) := by decide +kernel
theorem dX0_fall_73 : decode cX0_fall 73 = .ok (.iinc 1 (-1), 3) := by decide +kernel
theorem dX0_fall_76 : decode cX0_fall 76 = .ok (.goto (-51), 3) := by decide +kernel
theorem dX0_fall_79 : decode cX0_fall 79 = .ok (.aload_n 0, 1) := by decide +kernel
theorem dX0_fall_80 : decode cX0_fall 80 = .ok (.iconst 1, 1) := by decide +kernel
theorem dX0_fall_81 : decode cX0_fall 81 = .ok (.putfield 70, 3) := by decide +kernel
theorem dX0_fall_84 : decode cX0_fall 84 = .ok (.return_, 1) := by decide +kernel
abbrev cX0_sum : ByteArray := prog_1_method_14_code
def yX0_sum : MethodName := ⟨RX0, "sum", "()J"⟩
theorem dX0_sum_0 : decode cX0_sum 0 = .ok (.aload_n 0, 1) := by decide +kernel
theorem dX0_sum_1 : decode cX0_sum 1 = .ok (.invokevirtual 99, 3) := by decide +kernel
theorem dX0_sum_4 : decode cX0_sum 4 = .ok (.lconst 0, 1) := by decide +kernel
theorem dX0_sum_5 : decode cX0_sum 5 = .ok (.lstore_n 1, 1) := by decide +kernel
theorem dX0_sum_6 : decode cX0_sum 6 = .ok (.iconst 0, 1) := by decide +kernel
theorem dX0_sum_7 : decode cX0_sum 7 = .ok (.istore_n 3, 1) := by decide +kernel
theorem dX0_sum_8 : decode cX0_sum 8 = .ok (.iload_n 3, 1) := by decide +kernel
theorem dX0_sum_9 : decode cX0_sum 9 = .ok (.aload_n 0, 1) := by decide +kernel
theorem dX0_sum_10 : decode cX0_sum 10 = .ok (.getfield 47, 3) := by decide +kernel
theorem dX0_sum_13 : decode cX0_sum 13 = .ok (.if_icmp .gt 19, 3) := by decide +kernel
theorem dX0_sum_16 : decode cX0_sum 16 = .ok (.lload_n 1, 1) := by decide +kernel
theorem dX0_sum_17 : decode cX0_sum 17 = .ok (.aload_n 0, 1) := by decide +kernel
theorem dX0_sum_18 : decode cX0_sum 18 = .ok (.getfield 22, 3) := by decide +kernel
theorem dX0_sum_21 : decode cX0_sum 21 = .ok (.iload_n 3, 1) := by decide +kernel
theorem dX0_sum_22 : decode cX0_sum 22 = .ok (.iaload, 1) := by decide +kernel
theorem dX0_sum_23 : decode cX0_sum 23 = .ok (.i2l, 1) := by decide +kernel
theorem dX0_sum_24 : decode cX0_sum 24 = .ok (.ladd, 1) := by decide +kernel
theorem dX0_sum_25 : decode cX0_sum 25 = .ok (.lstore_n 1, 1) := by decide +kernel
theorem dX0_sum_26 : decode cX0_sum 26 = .ok (.iinc 3 1, 3) := by decide +kernel
theorem dX0_sum_29 : decode cX0_sum 29 = .ok (.goto (-21), 3) := by decide +kernel
theorem dX0_sum_32 : decode cX0_sum 32 = .ok (.lload_n 1, 1) := by decide +kernel
theorem dX0_sum_33 : decode cX0_sum 33 = .ok (.lreturn, 1) := by decide +kernel
abbrev cX0_below : ByteArray := prog_1_method_15_code
def yX0_below : MethodName := ⟨RX0, "below", "()I"⟩
theorem dX0_below_0 : decode cX0_below 0 = .ok (.aload_n 0, 1) := by decide +kernel
theorem dX0_below_1 : decode cX0_below 1 = .ok (.invokevirtual 99, 3) := by decide +kernel
theorem dX0_below_4 : decode cX0_below 4 = .ok (.iconst 0, 1) := by decide +kernel
theorem dX0_below_5 : decode cX0_below 5 = .ok (.istore_n 1, 1) := by decide +kernel
theorem dX0_below_6 : decode cX0_below 6 = .ok (.iconst 0, 1) := by decide +kernel
theorem dX0_below_7 : decode cX0_below 7 = .ok (.istore_n 2, 1) := by decide +kernel
theorem dX0_below_8 : decode cX0_below 8 = .ok (.iload_n 2, 1) := by decide +kernel
theorem dX0_below_9 : decode cX0_below 9 = .ok (.aload_n 0, 1) := by decide +kernel
theorem dX0_below_10 : decode cX0_below 10 = .ok (.getfield 47, 3) := by decide +kernel
theorem dX0_below_13 : decode cX0_below 13 = .ok (.if_icmp .gt 26, 3) := by decide +kernel
theorem dX0_below_16 : decode cX0_below 16 = .ok (.aload_n 0, 1) := by decide +kernel
theorem dX0_below_17 : decode cX0_below 17 = .ok (.getfield 22, 3) := by decide +kernel
theorem dX0_below_20 : decode cX0_below 20 = .ok (.iload_n 2, 1) := by decide +kernel
theorem dX0_below_21 : decode cX0_below 21 = .ok (.iaload, 1) := by decide +kernel
theorem dX0_below_22 : decode cX0_below 22 = .ok (.aload_n 0, 1) := by decide +kernel
theorem dX0_below_23 : decode cX0_below 23 = .ok (.iload_n 2, 1) := by decide +kernel
theorem dX0_below_24 : decode cX0_below 24 = .ok (.invokevirtual 102, 3) := by decide +kernel
theorem dX0_below_27 : decode cX0_below 27 = .ok (.if_icmp .ge 6, 3) := by decide +kernel
theorem dX0_below_30 : decode cX0_below 30 = .ok (.iinc 1 1, 3) := by decide +kernel
theorem dX0_below_33 : decode cX0_below 33 = .ok (.iinc 2 1, 3) := by decide +kernel
theorem dX0_below_36 : decode cX0_below 36 = .ok (.goto (-28), 3) := by decide +kernel
theorem dX0_below_39 : decode cX0_below 39 = .ok (.iload_n 1, 1) := by decide +kernel
theorem dX0_below_40 : decode cX0_below 40 = .ok (.ireturn, 1) := by decide +kernel
theorem q7 : (Jvm.Cond.initialized "SpeedRows") ∈ lw_all := lw_g (lw_at lw_m1 1 rfl) rfl
theorem q14 : (Jvm.Cond.instantiable "SpeedRows" (9 : Nat)) ∈ lw_all := lw_g (lw_at lw_m1 8 rfl) rfl
theorem q16 : (Jvm.Cond.instanceMethod ({ cls := "SpeedRows", name := "<init>", desc := "()V" } : Jvm.MethodName)) ∈ lw_all := lw_g (lw_at lw_m1 10 rfl) rfl
theorem q17 : (Jvm.Cond.code ({ cls := "SpeedRows", name := "<init>", desc := "()V" } : Jvm.MethodName) prog_1_method_1_code (1 : Nat) (Option.none : Option Jvm.ClassFile.FieldType)) ∈ lw_all := lw_g (lw_at lw_m1 11 rfl) rfl
theorem q18 : (Jvm.Cond.methodLink "SpeedRows" (1 : Nat) ({ cls := "java/lang/Object", name := "<init>", desc := "()V" } : Jvm.MethodName)) ∈ lw_all := lw_g (lw_at lw_m1 12 rfl) rfl
theorem q21 : (Jvm.Cond.classLink "SpeedRows" (9 : Nat) "SpeedRows$Move") ∈ lw_all := lw_g (lw_at lw_m1 15 rfl) rfl
theorem q23 : (Jvm.Cond.classLink "SpeedRows" (29 : Nat) "SpeedRows$Step") ∈ lw_all := lw_g (lw_at lw_m1 17 rfl) rfl
theorem q25 : (Jvm.Cond.methodLinkNest "SpeedRows" (31 : Nat) ({ cls := "SpeedRows$Step", name := "<init>", desc := "(III)V" } : Jvm.MethodName) "SpeedRows") ∈ lw_tbl := lw_at lw_m1 19 rfl
theorem q43 : (Jvm.Cond.fieldLink "SpeedRows" (11 : Nat) "SpeedRows" "moves" "[LSpeedRows$Move;") ∈ lw_all := lw_g (lw_at lw_m1 37 rfl) rfl
theorem q44 : (Jvm.Cond.fieldLink "SpeedRows" (15 : Nat) "SpeedRows" "limits" "[I") ∈ lw_all := lw_g (lw_at lw_m1 38 rfl) rfl
theorem q45 : (Jvm.Cond.fieldLink "SpeedRows" (19 : Nat) "SpeedRows" "risen" "[I") ∈ lw_all := lw_g (lw_at lw_m1 39 rfl) rfl
theorem q46 : (Jvm.Cond.fieldLink "SpeedRows" (22 : Nat) "SpeedRows" "speeds" "[I") ∈ lw_all := lw_g (lw_at lw_m1 40 rfl) rfl
theorem q47 : (Jvm.Cond.fieldLink "SpeedRows" (47 : Nat) "SpeedRows" "count" "I") ∈ lw_all := lw_g (lw_at lw_m1 41 rfl) rfl
theorem q48 : (Jvm.Cond.fieldLink "SpeedRows" (25 : Nat) "SpeedRows" "acceleration" "I") ∈ lw_all := lw_g (lw_at lw_m1 42 rfl) rfl
theorem q49 : (Jvm.Cond.fieldLink "SpeedRows" (34 : Nat) "SpeedRows" "first" "LSpeedRows$Step;") ∈ lw_all := lw_g (lw_at lw_m1 43 rfl) rfl
theorem q50 : (Jvm.Cond.fieldLink "SpeedRows" (38 : Nat) "SpeedRows" "last" "LSpeedRows$Step;") ∈ lw_all := lw_g (lw_at lw_m1 44 rfl) rfl
theorem q51 : (Jvm.Cond.fieldLink "SpeedRows" (70 : Nat) "SpeedRows" "isDone" "Z") ∈ lw_all := lw_g (lw_at lw_m1 45 rfl) rfl
theorem q52 : (Jvm.Cond.laysFinal "SpeedRows" "SpeedRows" "moves" "[LSpeedRows$Move;") ∈ lw_all := lw_g (lw_at lw_m1 46 rfl) rfl
theorem q53 : (Jvm.Cond.soleField "SpeedRows" "moves") ∈ lw_all := lw_g (lw_at lw_m1 47 rfl) rfl
theorem q54 : (Jvm.Cond.laysFinal "SpeedRows" "SpeedRows" "limits" "[I") ∈ lw_all := lw_g (lw_at lw_m1 48 rfl) rfl
theorem q55 : (Jvm.Cond.soleField "SpeedRows" "limits") ∈ lw_all := lw_g (lw_at lw_m1 49 rfl) rfl
theorem q56 : (Jvm.Cond.laysFinal "SpeedRows" "SpeedRows" "risen" "[I") ∈ lw_all := lw_g (lw_at lw_m1 50 rfl) rfl
theorem q57 : (Jvm.Cond.soleField "SpeedRows" "risen") ∈ lw_all := lw_g (lw_at lw_m1 51 rfl) rfl
theorem q58 : (Jvm.Cond.laysFinal "SpeedRows" "SpeedRows" "speeds" "[I") ∈ lw_all := lw_g (lw_at lw_m1 52 rfl) rfl
theorem q59 : (Jvm.Cond.soleField "SpeedRows" "speeds") ∈ lw_all := lw_g (lw_at lw_m1 53 rfl) rfl
theorem q60 : (Jvm.Cond.lays "SpeedRows" "SpeedRows" "count" "I") ∈ lw_all := lw_g (lw_at lw_m1 54 rfl) rfl
theorem q61 : (Jvm.Cond.soleField "SpeedRows" "count") ∈ lw_all := lw_g (lw_at lw_m1 55 rfl) rfl
theorem q62 : (Jvm.Cond.lays "SpeedRows" "SpeedRows" "acceleration" "I") ∈ lw_all := lw_g (lw_at lw_m1 56 rfl) rfl
theorem q63 : (Jvm.Cond.soleField "SpeedRows" "acceleration") ∈ lw_all := lw_g (lw_at lw_m1 57 rfl) rfl
theorem q64 : (Jvm.Cond.lays "SpeedRows" "SpeedRows" "first" "LSpeedRows$Step;") ∈ lw_all := lw_g (lw_at lw_m1 58 rfl) rfl
theorem q65 : (Jvm.Cond.soleField "SpeedRows" "first") ∈ lw_all := lw_g (lw_at lw_m1 59 rfl) rfl
theorem q66 : (Jvm.Cond.lays "SpeedRows" "SpeedRows" "last" "LSpeedRows$Step;") ∈ lw_all := lw_g (lw_at lw_m1 60 rfl) rfl
theorem q67 : (Jvm.Cond.soleField "SpeedRows" "last") ∈ lw_all := lw_g (lw_at lw_m1 61 rfl) rfl
theorem q68 : (Jvm.Cond.lays "SpeedRows" "SpeedRows" "isDone" "Z") ∈ lw_all := lw_g (lw_at lw_m1 62 rfl) rfl
theorem q69 : (Jvm.Cond.soleField "SpeedRows" "isDone") ∈ lw_all := lw_g (lw_at lw_m1 63 rfl) rfl
theorem q70 : (Jvm.Cond.superclass "SpeedRows" "java/lang/Object") ∈ lw_all := lw_g (lw_at lw_m1 64 rfl) rfl
theorem q72 : (Jvm.Cond.instanceMethod ({ cls := "SpeedRows", name := "first", desc := "(III)Z" } : Jvm.MethodName)) ∈ lw_all := lw_g (lw_at lw_m1 66 rfl) rfl
theorem q73 : (Jvm.Cond.selects "SpeedRows" ({ cls := "SpeedRows", name := "first", desc := "(III)Z" } : Jvm.MethodName) ({ cls := "SpeedRows", name := "first", desc := "(III)Z" } : Jvm.MethodName)) ∈ lw_all := lw_g (lw_at lw_m1 67 rfl) rfl
theorem q74 : (Jvm.Cond.code ({ cls := "SpeedRows", name := "first", desc := "(III)Z" } : Jvm.MethodName) prog_1_method_2_code (4 : Nat) (Option.some Jvm.ClassFile.FieldType.boolean)) ∈ lw_all := lw_g (lw_at lw_m1 68 rfl) rfl
theorem q75 : (Jvm.Cond.methodLink "SpeedRows" (41 : Nat) ({ cls := "SpeedRows$Step", name := "isOne", desc := "(III)Z" } : Jvm.MethodName)) ∈ lw_all := lw_g (lw_at lw_m1 69 rfl) rfl
theorem q79 : (Jvm.Cond.instanceMethod ({ cls := "SpeedRows", name := "last", desc := "(III)Z" } : Jvm.MethodName)) ∈ lw_all := lw_g (lw_at lw_m1 73 rfl) rfl
theorem q80 : (Jvm.Cond.selects "SpeedRows" ({ cls := "SpeedRows", name := "last", desc := "(III)Z" } : Jvm.MethodName) ({ cls := "SpeedRows", name := "last", desc := "(III)Z" } : Jvm.MethodName)) ∈ lw_all := lw_g (lw_at lw_m1 74 rfl) rfl
theorem q81 : (Jvm.Cond.code ({ cls := "SpeedRows", name := "last", desc := "(III)Z" } : Jvm.MethodName) prog_1_method_3_code (4 : Nat) (Option.some Jvm.ClassFile.FieldType.boolean)) ∈ lw_all := lw_g (lw_at lw_m1 75 rfl) rfl
theorem q83 : (Jvm.Cond.instanceMethod ({ cls := "SpeedRows", name := "move", desc := "(II)I" } : Jvm.MethodName)) ∈ lw_all := lw_g (lw_at lw_m1 77 rfl) rfl
theorem q84 : (Jvm.Cond.selects "SpeedRows" ({ cls := "SpeedRows", name := "move", desc := "(II)I" } : Jvm.MethodName) ({ cls := "SpeedRows", name := "move", desc := "(II)I" } : Jvm.MethodName)) ∈ lw_all := lw_g (lw_at lw_m1 78 rfl) rfl
theorem q85 : (Jvm.Cond.code ({ cls := "SpeedRows", name := "move", desc := "(II)I" } : Jvm.MethodName) prog_1_method_4_code (3 : Nat) (Option.some Jvm.ClassFile.FieldType.int)) ∈ lw_all := lw_g (lw_at lw_m1 79 rfl) rfl
theorem q86 : (Jvm.Cond.constant "SpeedRows" (45 : Nat) (100000 : Int32)) ∈ lw_all := lw_g (lw_at lw_m1 80 rfl) rfl
theorem q87 : (Jvm.Cond.constant "SpeedRows" (46 : Nat) (99999 : Int32)) ∈ lw_all := lw_g (lw_at lw_m1 81 rfl) rfl
theorem q89 : (Jvm.Cond.methodLinkNest "SpeedRows" (50 : Nat) ({ cls := "SpeedRows$Move", name := "<init>", desc := "(IILSpeedRows$Step;LSpeedRows$Step;)V" } : Jvm.MethodName) "SpeedRows") ∈ lw_tbl := lw_at lw_m1 83 rfl
theorem q106 : (Jvm.Cond.methodLink "SpeedRows" (53 : Nat) ({ cls := "SpeedRows", name := "corner", desc := "(LSpeedRows$Move;LSpeedRows$Move;)I" } : Jvm.MethodName)) ∈ lw_all := lw_g (lw_at lw_m1 100 rfl) rfl
theorem q107 : (Jvm.Cond.static ({ cls := "SpeedRows", name := "corner", desc := "(LSpeedRows$Move;LSpeedRows$Move;)I" } : Jvm.MethodName)) ∈ lw_all := lw_g (lw_at lw_m1 101 rfl) rfl
theorem q108 : (Jvm.Cond.code ({ cls := "SpeedRows", name := "corner", desc := "(LSpeedRows$Move;LSpeedRows$Move;)I" } : Jvm.MethodName) prog_1_method_5_code (4 : Nat) (Option.some Jvm.ClassFile.FieldType.int)) ∈ lw_all := lw_g (lw_at lw_m1 102 rfl) rfl
theorem q109 : (Jvm.Cond.methodLink "SpeedRows" (74 : Nat) ({ cls := "SpeedRows$Move", name := "last", desc := "()LSpeedRows$Step;" } : Jvm.MethodName)) ∈ lw_all := lw_g (lw_at lw_m1 103 rfl) rfl
theorem q113 : (Jvm.Cond.methodLink "SpeedRows" (77 : Nat) ({ cls := "SpeedRows$Move", name := "first", desc := "()LSpeedRows$Step;" } : Jvm.MethodName)) ∈ lw_all := lw_g (lw_at lw_m1 107 rfl) rfl
theorem q117 : (Jvm.Cond.methodLink "SpeedRows" (79 : Nat) ({ cls := "SpeedRows$Step", name := "times", desc := "(LSpeedRows$Step;)I" } : Jvm.MethodName)) ∈ lw_all := lw_g (lw_at lw_m1 111 rfl) rfl
theorem q121 : (Jvm.Cond.methodLink "SpeedRows" (83 : Nat) ({ cls := "java/lang/Math", name := "max", desc := "(II)I" } : Jvm.MethodName)) ∈ lw_all := lw_g (lw_at lw_m1 115 rfl) rfl
theorem q124 : (Jvm.Cond.methodLink "SpeedRows" (86 : Nat) ({ cls := "SpeedRows$Move", name := "feed", desc := "()I" } : Jvm.MethodName)) ∈ lw_all := lw_g (lw_at lw_m1 118 rfl) rfl
theorem q128 : (Jvm.Cond.methodLink "SpeedRows" (65 : Nat) ({ cls := "java/lang/Math", name := "min", desc := "(II)I" } : Jvm.MethodName)) ∈ lw_all := lw_g (lw_at lw_m1 122 rfl) rfl
theorem q131 : (Jvm.Cond.methodLink "SpeedRows" (57 : Nat) ({ cls := "SpeedRows$Move", name := "n", desc := "()I" } : Jvm.MethodName)) ∈ lw_all := lw_g (lw_at lw_m1 125 rfl) rfl
theorem q135 : (Jvm.Cond.methodLink "SpeedRows" (61 : Nat) ({ cls := "SpeedRows", name := "reached", desc := "(II)I" } : Jvm.MethodName)) ∈ lw_all := lw_g (lw_at lw_m1 129 rfl) rfl
theorem q136 : (Jvm.Cond.privateMethod ({ cls := "SpeedRows", name := "reached", desc := "(II)I" } : Jvm.MethodName)) ∈ lw_tbl := lw_at lw_m1 130 rfl
theorem q137 : (Jvm.Cond.instanceMethod ({ cls := "SpeedRows", name := "reached", desc := "(II)I" } : Jvm.MethodName)) ∈ lw_all := lw_g (lw_at lw_m1 131 rfl) rfl
theorem q138 : (Jvm.Cond.code ({ cls := "SpeedRows", name := "reached", desc := "(II)I" } : Jvm.MethodName) prog_1_method_6_code (3 : Nat) (Option.some Jvm.ClassFile.FieldType.int)) ∈ lw_all := lw_g (lw_at lw_m1 132 rfl) rfl
theorem q139 : (Jvm.Cond.constantLong "SpeedRows" (89 : Nat) (2 : Int64)) ∈ lw_all := lw_g (lw_at lw_m1 133 rfl) rfl
theorem q140 : (Jvm.Cond.methodLink "SpeedRows" (91 : Nat) ({ cls := "SpeedRows", name := "root", desc := "(J)I" } : Jvm.MethodName)) ∈ lw_all := lw_g (lw_at lw_m1 134 rfl) rfl
theorem q141 : (Jvm.Cond.static ({ cls := "SpeedRows", name := "root", desc := "(J)I" } : Jvm.MethodName)) ∈ lw_all := lw_g (lw_at lw_m1 135 rfl) rfl
theorem q142 : (Jvm.Cond.code ({ cls := "SpeedRows", name := "root", desc := "(J)I" } : Jvm.MethodName) prog_1_method_7_code (7 : Nat) (Option.some Jvm.ClassFile.FieldType.int)) ∈ lw_all := lw_g (lw_at lw_m1 136 rfl) rfl
theorem q144 : (Jvm.Cond.instanceMethod ({ cls := "SpeedRows", name := "back", desc := "(I)I" } : Jvm.MethodName)) ∈ lw_all := lw_g (lw_at lw_m1 138 rfl) rfl
theorem q145 : (Jvm.Cond.selects "SpeedRows" ({ cls := "SpeedRows", name := "back", desc := "(I)I" } : Jvm.MethodName) ({ cls := "SpeedRows", name := "back", desc := "(I)I" } : Jvm.MethodName)) ∈ lw_all := lw_g (lw_at lw_m1 139 rfl) rfl
theorem q146 : (Jvm.Cond.code ({ cls := "SpeedRows", name := "back", desc := "(I)I" } : Jvm.MethodName) prog_1_method_8_code (2 : Nat) (Option.some Jvm.ClassFile.FieldType.int)) ∈ lw_all := lw_g (lw_at lw_m1 140 rfl) rfl
theorem q148 : (Jvm.Cond.instanceMethod ({ cls := "SpeedRows", name := "acceleration", desc := "(I)Z" } : Jvm.MethodName)) ∈ lw_all := lw_g (lw_at lw_m1 142 rfl) rfl
theorem q149 : (Jvm.Cond.selects "SpeedRows" ({ cls := "SpeedRows", name := "acceleration", desc := "(I)Z" } : Jvm.MethodName) ({ cls := "SpeedRows", name := "acceleration", desc := "(I)Z" } : Jvm.MethodName)) ∈ lw_all := lw_g (lw_at lw_m1 143 rfl) rfl
theorem q150 : (Jvm.Cond.code ({ cls := "SpeedRows", name := "acceleration", desc := "(I)Z" } : Jvm.MethodName) prog_1_method_9_code (3 : Nat) (Option.some Jvm.ClassFile.FieldType.boolean)) ∈ lw_all := lw_g (lw_at lw_m1 144 rfl) rfl
theorem q152 : (Jvm.Cond.instanceMethod ({ cls := "SpeedRows", name := "limit", desc := "(I)I" } : Jvm.MethodName)) ∈ lw_all := lw_g (lw_at lw_m1 146 rfl) rfl
theorem q153 : (Jvm.Cond.selects "SpeedRows" ({ cls := "SpeedRows", name := "limit", desc := "(I)I" } : Jvm.MethodName) ({ cls := "SpeedRows", name := "limit", desc := "(I)I" } : Jvm.MethodName)) ∈ lw_all := lw_g (lw_at lw_m1 147 rfl) rfl
theorem q154 : (Jvm.Cond.code ({ cls := "SpeedRows", name := "limit", desc := "(I)I" } : Jvm.MethodName) prog_1_method_11_code (2 : Nat) (Option.some Jvm.ClassFile.FieldType.int)) ∈ lw_all := lw_g (lw_at lw_m1 148 rfl) rfl
theorem q155 : (Jvm.Cond.methodLink "SpeedRows" (95 : Nat) ({ cls := "SpeedRows", name := "isCorner", desc := "(I)Z" } : Jvm.MethodName)) ∈ lw_all := lw_g (lw_at lw_m1 149 rfl) rfl
theorem q156 : (Jvm.Cond.privateMethod ({ cls := "SpeedRows", name := "isCorner", desc := "(I)Z" } : Jvm.MethodName)) ∈ lw_tbl := lw_at lw_m1 150 rfl
theorem q157 : (Jvm.Cond.instanceMethod ({ cls := "SpeedRows", name := "isCorner", desc := "(I)Z" } : Jvm.MethodName)) ∈ lw_all := lw_g (lw_at lw_m1 151 rfl) rfl
theorem q158 : (Jvm.Cond.code ({ cls := "SpeedRows", name := "isCorner", desc := "(I)Z" } : Jvm.MethodName) prog_1_method_10_code (2 : Nat) (Option.some Jvm.ClassFile.FieldType.boolean)) ∈ lw_all := lw_g (lw_at lw_m1 152 rfl) rfl
theorem q160 : (Jvm.Cond.instanceMethod ({ cls := "SpeedRows", name := "speed", desc := "(I)I" } : Jvm.MethodName)) ∈ lw_all := lw_g (lw_at lw_m1 154 rfl) rfl
theorem q161 : (Jvm.Cond.selects "SpeedRows" ({ cls := "SpeedRows", name := "speed", desc := "(I)I" } : Jvm.MethodName) ({ cls := "SpeedRows", name := "speed", desc := "(I)I" } : Jvm.MethodName)) ∈ lw_all := lw_g (lw_at lw_m1 155 rfl) rfl
theorem q162 : (Jvm.Cond.code ({ cls := "SpeedRows", name := "speed", desc := "(I)I" } : Jvm.MethodName) prog_1_method_13_code (2 : Nat) (Option.some Jvm.ClassFile.FieldType.int)) ∈ lw_all := lw_g (lw_at lw_m1 156 rfl) rfl
theorem q163 : (Jvm.Cond.methodLink "SpeedRows" (99 : Nat) ({ cls := "SpeedRows", name := "fall", desc := "()V" } : Jvm.MethodName)) ∈ lw_all := lw_g (lw_at lw_m1 157 rfl) rfl
theorem q164 : (Jvm.Cond.privateMethod ({ cls := "SpeedRows", name := "fall", desc := "()V" } : Jvm.MethodName)) ∈ lw_tbl := lw_at lw_m1 158 rfl
theorem q165 : (Jvm.Cond.instanceMethod ({ cls := "SpeedRows", name := "fall", desc := "()V" } : Jvm.MethodName)) ∈ lw_all := lw_g (lw_at lw_m1 159 rfl) rfl
theorem q166 : (Jvm.Cond.code ({ cls := "SpeedRows", name := "fall", desc := "()V" } : Jvm.MethodName) prog_1_method_12_code (2 : Nat) (Option.none : Option Jvm.ClassFile.FieldType)) ∈ lw_all := lw_g (lw_at lw_m1 160 rfl) rfl
theorem q168 : (Jvm.Cond.instanceMethod ({ cls := "SpeedRows", name := "sum", desc := "()J" } : Jvm.MethodName)) ∈ lw_all := lw_g (lw_at lw_m1 162 rfl) rfl
theorem q169 : (Jvm.Cond.selects "SpeedRows" ({ cls := "SpeedRows", name := "sum", desc := "()J" } : Jvm.MethodName) ({ cls := "SpeedRows", name := "sum", desc := "()J" } : Jvm.MethodName)) ∈ lw_all := lw_g (lw_at lw_m1 163 rfl) rfl
theorem q170 : (Jvm.Cond.code ({ cls := "SpeedRows", name := "sum", desc := "()J" } : Jvm.MethodName) prog_1_method_14_code (4 : Nat) (Option.some Jvm.ClassFile.FieldType.long)) ∈ lw_all := lw_g (lw_at lw_m1 164 rfl) rfl
theorem q172 : (Jvm.Cond.instanceMethod ({ cls := "SpeedRows", name := "below", desc := "()I" } : Jvm.MethodName)) ∈ lw_all := lw_g (lw_at lw_m1 166 rfl) rfl
theorem q173 : (Jvm.Cond.selects "SpeedRows" ({ cls := "SpeedRows", name := "below", desc := "()I" } : Jvm.MethodName) ({ cls := "SpeedRows", name := "below", desc := "()I" } : Jvm.MethodName)) ∈ lw_all := lw_g (lw_at lw_m1 167 rfl) rfl
theorem q174 : (Jvm.Cond.code ({ cls := "SpeedRows", name := "below", desc := "()I" } : Jvm.MethodName) prog_1_method_15_code (3 : Nat) (Option.some Jvm.ClassFile.FieldType.int)) ∈ lw_all := lw_g (lw_at lw_m1 168 rfl) rfl
theorem q175 : (Jvm.Cond.methodLink "SpeedRows" (102 : Nat) ({ cls := "SpeedRows", name := "limit", desc := "(I)I" } : Jvm.MethodName)) ∈ lw_all := lw_g (lw_at lw_m1 169 rfl) rfl
theorem in_X0 : ∀ w ∈ wsX00, w ∈ lw_all := lw_in wsX00 [52, 54, 56, 58, 60, 62, 64, 66, 68] (by decide +kernel) (by decide +kernel)
end
section
/-! SpeedRowsModel -/
set_option maxRecDepth 100000
def RX2 : String := "SpeedRowsModel"
def TX2 : u_T := fun k => match k with
  | 0 => ("SpeedRowsModel", "ticks", "[I", true)
  | 1 => ("SpeedRowsModel", "feeds", "[I", true)
  | 2 => ("SpeedRowsModel", "firsts", "[B", true)
  | 3 => ("SpeedRowsModel", "lasts", "[B", true)
  | 4 => ("SpeedRowsModel", "first", "[B", true)
  | 5 => ("SpeedRowsModel", "last", "[B", true)
  | 6 => ("SpeedRowsModel", "moves", "I", false)
  | 7 => ("SpeedRowsModel", "most", "I", false)
  | 8 => ("SpeedRowsModel", "speeds", "[I", true)
  | _ => ("SpeedRowsModel", "isKnown", "Z", false)
def tyX2 : Nat → FieldType := fun k => match k with
  | 0 => .array .int
  | 1 => .array .int
  | 2 => .array .byte
  | 3 => .array .byte
  | 4 => .array .byte
  | 5 => .array .byte
  | 6 => .int
  | 7 => .int
  | 8 => .array .int
  | _ => .boolean
abbrev wsX20 : List Cond := u_ws RX2 TX2 10
theorem nmX2 : ∀ a, a < 10 → ∀ b, b < 10 → a ≠ b → (TX2 a).2.1 ≠ (TX2 b).2.1 := by decide +kernel
theorem tyX2_ok : ∀ k, k < 10 → parseFieldDescriptor (TX2 k).2.2.1 = some (tyX2 k) := by decide +kernel
abbrev cX2_init : ByteArray := prog_5_method_1_code
def yX2_init : MethodName := ⟨RX2, "<init>", "()V"⟩
theorem dX2_init_0 : decode cX2_init 0 = .ok (.aload_n 0, 1) := by decide +kernel
theorem dX2_init_1 : decode cX2_init 1 = .ok (.invokespecial 1, 3) := by decide +kernel
theorem dX2_init_4 : decode cX2_init 4 = .ok (.aload_n 0, 1) := by decide +kernel
theorem dX2_init_5 : decode cX2_init 5 = .ok (.sipush 2000, 3) := by decide +kernel
theorem dX2_init_8 : decode cX2_init 8 = .ok (.newarray .int, 2) := by decide +kernel
theorem dX2_init_10 : decode cX2_init 10 = .ok (.putfield 9, 3) := by decide +kernel
theorem dX2_init_13 : decode cX2_init 13 = .ok (.aload_n 0, 1) := by decide +kernel
theorem dX2_init_14 : decode cX2_init 14 = .ok (.sipush 2000, 3) := by decide +kernel
theorem dX2_init_17 : decode cX2_init 17 = .ok (.newarray .int, 2) := by decide +kernel
theorem dX2_init_19 : decode cX2_init 19 = .ok (.putfield 13, 3) := by decide +kernel
theorem dX2_init_22 : decode cX2_init 22 = .ok (.aload_n 0, 1) := by decide +kernel
theorem dX2_init_23 : decode cX2_init 23 = .ok (.sipush 6000, 3) := by decide +kernel
theorem dX2_init_26 : decode cX2_init 26 = .ok (.newarray .byte, 2) := by decide +kernel
theorem dX2_init_28 : decode cX2_init 28 = .ok (.putfield 16, 3) := by decide +kernel
theorem dX2_init_31 : decode cX2_init 31 = .ok (.aload_n 0, 1) := by decide +kernel
theorem dX2_init_32 : decode cX2_init 32 = .ok (.sipush 6000, 3) := by decide +kernel
theorem dX2_init_35 : decode cX2_init 35 = .ok (.newarray .byte, 2) := by decide +kernel
theorem dX2_init_37 : decode cX2_init 37 = .ok (.putfield 20, 3) := by decide +kernel
theorem dX2_init_40 : decode cX2_init 40 = .ok (.aload_n 0, 1) := by decide +kernel
theorem dX2_init_41 : decode cX2_init 41 = .ok (.iconst 3, 1) := by decide +kernel
theorem dX2_init_42 : decode cX2_init 42 = .ok (.newarray .byte, 2) := by decide +kernel
theorem dX2_init_44 : decode cX2_init 44 = .ok (.putfield 23, 3) := by decide +kernel
theorem dX2_init_47 : decode cX2_init 47 = .ok (.aload_n 0, 1) := by decide +kernel
theorem dX2_init_48 : decode cX2_init 48 = .ok (.iconst 3, 1) := by decide +kernel
theorem dX2_init_49 : decode cX2_init 49 = .ok (.newarray .byte, 2) := by decide +kernel
theorem dX2_init_51 : decode cX2_init 51 = .ok (.putfield 26, 3) := by decide +kernel
theorem dX2_init_54 : decode cX2_init 54 = .ok (.aload_n 0, 1) := by decide +kernel
theorem dX2_init_55 : decode cX2_init 55 = .ok (.bipush 100, 2) := by decide +kernel
theorem dX2_init_57 : decode cX2_init 57 = .ok (.putfield 29, 3) := by decide +kernel
theorem dX2_init_60 : decode cX2_init 60 = .ok (.aload_n 0, 1) := by decide +kernel
theorem dX2_init_61 : decode cX2_init 61 = .ok (.sipush 2001, 3) := by decide +kernel
theorem dX2_init_64 : decode cX2_init 64 = .ok (.newarray .int, 2) := by decide +kernel
theorem dX2_init_66 : decode cX2_init 66 = .ok (.putfield 33, 3) := by decide +kernel
theorem dX2_init_69 : decode cX2_init 69 = .ok (.aload_n 0, 1) := by decide +kernel
theorem dX2_init_70 : decode cX2_init 70 = .ok (.getfield 23, 3) := by decide +kernel
theorem dX2_init_73 : decode cX2_init 73 = .ok (.iconst 0, 1) := by decide +kernel
theorem dX2_init_74 : decode cX2_init 74 = .ok (.iconst 1, 1) := by decide +kernel
theorem dX2_init_75 : decode cX2_init 75 = .ok (.bastore, 1) := by decide +kernel
theorem dX2_init_76 : decode cX2_init 76 = .ok (.aload_n 0, 1) := by decide +kernel
theorem dX2_init_77 : decode cX2_init 77 = .ok (.getfield 26, 3) := by decide +kernel
theorem dX2_init_80 : decode cX2_init 80 = .ok (.iconst 0, 1) := by decide +kernel
theorem dX2_init_81 : decode cX2_init 81 = .ok (.iconst 1, 1) := by decide +kernel
theorem dX2_init_82 : decode cX2_init 82 = .ok (.bastore, 1) := by decide +kernel
theorem dX2_init_83 : decode cX2_init 83 = .ok (.return_, 1) := by decide +kernel
abbrev cX2_first : ByteArray := prog_5_method_5_code
def yX2_first : MethodName := ⟨RX2, "first", "(III)Z"⟩
theorem dX2_first_0 : decode cX2_first 0 = .ok (.aload_n 0, 1) := by decide +kernel
theorem dX2_first_1 : decode cX2_first 1 = .ok (.getfield 23, 3) := by decide +kernel
theorem dX2_first_4 : decode cX2_first 4 = .ok (.iload_n 1, 1) := by decide +kernel
theorem dX2_first_5 : decode cX2_first 5 = .ok (.iload_n 2, 1) := by decide +kernel
theorem dX2_first_6 : decode cX2_first 6 = .ok (.iload_n 3, 1) := by decide +kernel
theorem dX2_first_7 : decode cX2_first 7 = .ok (.invokestatic 40, 3) := by decide +kernel
theorem dX2_first_10 : decode cX2_first 10 = .ok (.ireturn, 1) := by decide +kernel
abbrev cX2_told : ByteArray := prog_5_method_4_code
def yX2_told : MethodName := ⟨RX2, "told", "([BIII)Z"⟩
theorem dX2_told_0 : decode cX2_told 0 = .ok (.iload_n 1, 1) := by decide +kernel
theorem dX2_told_1 : decode cX2_told 1 = .ok (.iload_n 2, 1) := by decide +kernel
theorem dX2_told_2 : decode cX2_told 2 = .ok (.iload_n 3, 1) := by decide +kernel
theorem dX2_told_3 : decode cX2_told 3 = .ok (.invokestatic 36, 3) := by decide +kernel
theorem dX2_told_6 : decode cX2_told 6 = .ok (.ifCond .ne 5, 3) := by decide +kernel
theorem dX2_told_9 : decode cX2_told 9 = .ok (.iconst 0, 1) := by decide +kernel
theorem dX2_told_10 : decode cX2_told 10 = .ok (.ireturn, 1) := by decide +kernel
theorem dX2_told_11 : decode cX2_told 11 = .ok (.aload_n 0, 1) := by decide +kernel
theorem dX2_told_12 : decode cX2_told 12 = .ok (.iconst 0, 1) := by decide +kernel
theorem dX2_told_13 : decode cX2_told 13 = .ok (.iload_n 1, 1) := by decide +kernel
theorem dX2_told_14 : decode cX2_told 14 = .ok (.i2b, 1) := by decide +kernel
theorem dX2_told_15 : decode cX2_told 15 = .ok (.bastore, 1) := by decide +kernel
theorem dX2_told_16 : decode cX2_told 16 = .ok (.aload_n 0, 1) := by decide +kernel
theorem dX2_told_17 : decode cX2_told 17 = .ok (.iconst 1, 1) := by decide +kernel
theorem dX2_told_18 : decode cX2_told 18 = .ok (.iload_n 2, 1) := by decide +kernel
theorem dX2_told_19 : decode cX2_told 19 = .ok (.i2b, 1) := by decide +kernel
theorem dX2_told_20 : decode cX2_told 20 = .ok (.bastore, 1) := by decide +kernel
theorem dX2_told_21 : decode cX2_told 21 = .ok (.aload_n 0, 1) := by decide +kernel
theorem dX2_told_22 : decode cX2_told 22 = .ok (.iconst 2, 1) := by decide +kernel
theorem dX2_told_23 : decode cX2_told 23 = .ok (.iload_n 3, 1) := by decide +kernel
theorem dX2_told_24 : decode cX2_told 24 = .ok (.i2b, 1) := by decide +kernel
theorem dX2_told_25 : decode cX2_told 25 = .ok (.bastore, 1) := by decide +kernel
theorem dX2_told_26 : decode cX2_told 26 = .ok (.iconst 1, 1) := by decide +kernel
theorem dX2_told_27 : decode cX2_told 27 = .ok (.ireturn, 1) := by decide +kernel
abbrev cX2_isStep : ByteArray := prog_5_method_3_code
def yX2_isStep : MethodName := ⟨RX2, "isStep", "(III)Z"⟩
theorem dX2_isStep_0 : decode cX2_isStep 0 = .ok (.iload_n 0, 1) := by decide +kernel
theorem dX2_isStep_1 : decode cX2_isStep 1 = .ok (.iconst (-1), 1) := by decide +kernel
theorem dX2_isStep_2 : decode cX2_isStep 2 = .ok (.if_icmp .lt 44, 3) := by decide +kernel
theorem dX2_isStep_5 : decode cX2_isStep 5 = .ok (.iload_n 0, 1) := by decide +kernel
theorem dX2_isStep_6 : decode cX2_isStep 6 = .ok (.iconst 1, 1) := by decide +kernel
theorem dX2_isStep_7 : decode cX2_isStep 7 = .ok (.if_icmp .gt 39, 3) := by decide +kernel
theorem dX2_isStep_10 : decode cX2_isStep 10 = .ok (.iload_n 1, 1) := by decide +kernel
theorem dX2_isStep_11 : decode cX2_isStep 11 = .ok (.iconst (-1), 1) := by decide +kernel
theorem dX2_isStep_12 : decode cX2_isStep 12 = .ok (.if_icmp .lt 34, 3) := by decide +kernel
theorem dX2_isStep_15 : decode cX2_isStep 15 = .ok (.iload_n 1, 1) := by decide +kernel
theorem dX2_isStep_16 : decode cX2_isStep 16 = .ok (.iconst 1, 1) := by decide +kernel
theorem dX2_isStep_17 : decode cX2_isStep 17 = .ok (.if_icmp .gt 29, 3) := by decide +kernel
theorem dX2_isStep_20 : decode cX2_isStep 20 = .ok (.iload_n 2, 1) := by decide +kernel
theorem dX2_isStep_21 : decode cX2_isStep 21 = .ok (.iconst (-1), 1) := by decide +kernel
theorem dX2_isStep_22 : decode cX2_isStep 22 = .ok (.if_icmp .lt 24, 3) := by decide +kernel
theorem dX2_isStep_25 : decode cX2_isStep 25 = .ok (.iload_n 2, 1) := by decide +kernel
theorem dX2_isStep_26 : decode cX2_isStep 26 = .ok (.iconst 1, 1) := by decide +kernel
theorem dX2_isStep_27 : decode cX2_isStep 27 = .ok (.if_icmp .gt 19, 3) := by decide +kernel
theorem dX2_isStep_30 : decode cX2_isStep 30 = .ok (.iload_n 0, 1) := by decide +kernel
theorem dX2_isStep_31 : decode cX2_isStep 31 = .ok (.ifCond .ne 11, 3) := by decide +kernel
theorem dX2_isStep_34 : decode cX2_isStep 34 = .ok (.iload_n 1, 1) := by decide +kernel
theorem dX2_isStep_35 : decode cX2_isStep 35 = .ok (.ifCond .ne 7, 3) := by decide +kernel
theorem dX2_isStep_38 : decode cX2_isStep 38 = .ok (.iload_n 2, 1) := by decide +kernel
theorem dX2_isStep_39 : decode cX2_isStep 39 = .ok (.ifCond .eq 7, 3) := by decide +kernel
theorem dX2_isStep_42 : decode cX2_isStep 42 = .ok (.iconst 1, 1) := by decide +kernel
theorem dX2_isStep_43 : decode cX2_isStep 43 = .ok (.goto 4, 3) := by decide +kernel
theorem dX2_isStep_46 : decode cX2_isStep 46 = .ok (.iconst 0, 1) := by decide +kernel
theorem dX2_isStep_47 : decode cX2_isStep 47 = .ok (.ireturn, 1) := by decide +kernel
abbrev cX2_last : ByteArray := prog_5_method_6_code
def yX2_last : MethodName := ⟨RX2, "last", "(III)Z"⟩
theorem dX2_last_0 : decode cX2_last 0 = .ok (.aload_n 0, 1) := by decide +kernel
theorem dX2_last_1 : decode cX2_last 1 = .ok (.getfield 26, 3) := by decide +kernel
theorem dX2_last_4 : decode cX2_last 4 = .ok (.iload_n 1, 1) := by decide +kernel
theorem dX2_last_5 : decode cX2_last 5 = .ok (.iload_n 2, 1) := by decide +kernel
theorem dX2_last_6 : decode cX2_last 6 = .ok (.iload_n 3, 1) := by decide +kernel
theorem dX2_last_7 : decode cX2_last 7 = .ok (.invokestatic 40, 3) := by decide +kernel
theorem dX2_last_10 : decode cX2_last 10 = .ok (.ireturn, 1) := by decide +kernel
abbrev cX2_move : ByteArray := prog_5_method_7_code
def yX2_move : MethodName := ⟨RX2, "move", "(II)I"⟩
theorem dX2_move_0 : decode cX2_move 0 = .ok (.iload_n 1, 1) := by decide +kernel
theorem dX2_move_1 : decode cX2_move 1 = .ok (.iconst 1, 1) := by decide +kernel
theorem dX2_move_2 : decode cX2_move 2 = .ok (.if_icmp .lt 30, 3) := by decide +kernel
theorem dX2_move_5 : decode cX2_move 5 = .ok (.iload_n 1, 1) := by decide +kernel
theorem dX2_move_6 : decode cX2_move 6 = .ok (.ldc 44, 2) := by decide +kernel
theorem dX2_move_8 : decode cX2_move 8 = .ok (.if_icmp .gt 24, 3) := by decide +kernel
theorem dX2_move_11 : decode cX2_move 11 = .ok (.iload_n 2, 1) := by decide +kernel
theorem dX2_move_12 : decode cX2_move 12 = .ok (.iconst 1, 1) := by decide +kernel
theorem dX2_move_13 : decode cX2_move 13 = .ok (.if_icmp .lt 19, 3) := by decide +kernel
theorem dX2_move_16 : decode cX2_move 16 = .ok (.iload_n 2, 1) := by decide +kernel
theorem dX2_move_17 : decode cX2_move 17 = .ok (.ldc 45, 2) := by decide +kernel
theorem dX2_move_19 : decode cX2_move 19 = .ok (.if_icmp .gt 13, 3) := by decide +kernel
theorem dX2_move_22 : decode cX2_move 22 = .ok (.aload_n 0, 1) := by decide +kernel
theorem dX2_move_23 : decode cX2_move 23 = .ok (.getfield 46, 3) := by decide +kernel
theorem dX2_move_26 : decode cX2_move 26 = .ok (.sipush 2000, 3) := by decide +kernel
theorem dX2_move_29 : decode cX2_move 29 = .ok (.if_icmp .ne 5, 3) := by decide +kernel
theorem dX2_move_32 : decode cX2_move 32 = .ok (.iconst (-1), 1) := by decide +kernel
theorem dX2_move_33 : decode cX2_move 33 = .ok (.ireturn, 1) := by decide +kernel
theorem dX2_move_34 : decode cX2_move 34 = .ok (.aload_n 0, 1) := by decide +kernel
theorem dX2_move_35 : decode cX2_move 35 = .ok (.getfield 9, 3) := by decide +kernel
theorem dX2_move_38 : decode cX2_move 38 = .ok (.aload_n 0, 1) := by decide +kernel
theorem dX2_move_39 : decode cX2_move 39 = .ok (.getfield 46, 3) := by decide +kernel
theorem dX2_move_42 : decode cX2_move 42 = .ok (.iload_n 1, 1) := by decide +kernel
theorem dX2_move_43 : decode cX2_move 43 = .ok (.iastore, 1) := by decide +kernel
theorem dX2_move_44 : decode cX2_move 44 = .ok (.aload_n 0, 1) := by decide +kernel
theorem dX2_move_45 : decode cX2_move 45 = .ok (.getfield 13, 3) := by decide +kernel
theorem dX2_move_48 : decode cX2_move 48 = .ok (.aload_n 0, 1) := by decide +kernel
theorem dX2_move_49 : decode cX2_move 49 = .ok (.getfield 46, 3) := by decide +kernel
theorem dX2_move_52 : decode cX2_move 52 = .ok (.iload_n 2, 1) := by decide +kernel
theorem dX2_move_53 : decode cX2_move 53 = .ok (.iastore, 1) := by decide +kernel
theorem dX2_move_54 : decode cX2_move 54 = .ok (.iconst 0, 1) := by decide +kernel
theorem dX2_move_55 : decode cX2_move 55 = .ok (.istore_n 3, 1) := by decide +kernel
theorem dX2_move_56 : decode cX2_move 56 = .ok (.iload_n 3, 1) := by decide +kernel
theorem dX2_move_57 : decode cX2_move 57 = .ok (.iconst 3, 1) := by decide +kernel
theorem dX2_move_58 : decode cX2_move 58 = .ok (.if_icmp .ge 47, 3) := by decide +kernel
theorem dX2_move_61 : decode cX2_move 61 = .ok (.aload_n 0, 1) := by decide +kernel
theorem dX2_move_62 : decode cX2_move 62 = .ok (.getfield 16, 3) := by decide +kernel
theorem dX2_move_65 : decode cX2_move 65 = .ok (.iconst 3, 1) := by decide +kernel
theorem dX2_move_66 : decode cX2_move 66 = .ok (.aload_n 0, 1) := by decide +kernel
theorem dX2_move_67 : decode cX2_move 67 = .ok (.getfield 46, 3) := by decide +kernel
theorem dX2_move_70 : decode cX2_move 70 = .ok (.imul, 1) := by decide +kernel
theorem dX2_move_71 : decode cX2_move 71 = .ok (.iload_n 3, 1) := by decide +kernel
theorem dX2_move_72 : decode cX2_move 72 = .ok (.iadd, 1) := by decide +kernel
theorem dX2_move_73 : decode cX2_move 73 = .ok (.aload_n 0, 1) := by decide +kernel
theorem dX2_move_74 : decode cX2_move 74 = .ok (.getfield 23, 3) := by decide +kernel
theorem dX2_move_77 : decode cX2_move 77 = .ok (.iload_n 3, 1) := by decide +kernel
theorem dX2_move_78 : decode cX2_move 78 = .ok (.baload, 1) := by decide +kernel
theorem dX2_move_79 : decode cX2_move 79 = .ok (.bastore, 1) := by decide +kernel
theorem dX2_move_80 : decode cX2_move 80 = .ok (.aload_n 0, 1) := by decide +kernel
theorem dX2_move_81 : decode cX2_move 81 = .ok (.getfield 20, 3) := by decide +kernel
theorem dX2_move_84 : decode cX2_move 84 = .ok (.iconst 3, 1) := by decide +kernel
theorem dX2_move_85 : decode cX2_move 85 = .ok (.aload_n 0, 1) := by decide +kernel
theorem dX2_move_86 : decode cX2_move 86 = .ok (.getfield 46, 3) := by decide +kernel
theorem dX2_move_89 : decode cX2_move 89 = .ok (.imul, 1) := by decide +kernel
theorem dX2_move_90 : decode cX2_move 90 = .ok (.iload_n 3, 1) := by decide +kernel
theorem dX2_move_91 : decode cX2_move 91 = .ok (.iadd, 1) := by decide +kernel
theorem dX2_move_92 : decode cX2_move 92 = .ok (.aload_n 0, 1) := by decide +kernel
theorem dX2_move_93 : decode cX2_move 93 = .ok (.getfield 26, 3) := by decide +kernel
theorem dX2_move_96 : decode cX2_move 96 = .ok (.iload_n 3, 1) := by decide +kernel
theorem dX2_move_97 : decode cX2_move 97 = .ok (.baload, 1) := by decide +kernel
theorem dX2_move_98 : decode cX2_move 98 = .ok (.bastore, 1) := by decide +kernel
theorem dX2_move_99 : decode cX2_move 99 = .ok (.iinc 3 1, 3) := by decide +kernel
theorem dX2_move_102 : decode cX2_move 102 = .ok (.goto (-46), 3) := by decide +kernel
theorem dX2_move_105 : decode cX2_move 105 = .ok (.aload_n 0, 1) := by decide +kernel
theorem dX2_move_106 : decode cX2_move 106 = .ok (.dup, 1) := by decide +kernel
theorem dX2_move_107 : decode cX2_move 107 = .ok (.getfield 46, 3) := by decide +kernel
theorem dX2_move_110 : decode cX2_move 110 = .ok (.iconst 1, 1) := by decide +kernel
theorem dX2_move_111 : decode cX2_move 111 = .ok (.iadd, 1) := by decide +kernel
theorem dX2_move_112 : decode cX2_move 112 = .ok (.putfield 46, 3) := by decide +kernel
theorem dX2_move_115 : decode cX2_move 115 = .ok (.aload_n 0, 1) := by decide +kernel
theorem dX2_move_116 : decode cX2_move 116 = .ok (.iconst 0, 1) := by decide +kernel
theorem dX2_move_117 : decode cX2_move 117 = .ok (.putfield 49, 3) := by decide +kernel
theorem dX2_move_120 : decode cX2_move 120 = .ok (.aload_n 0, 1) := by decide +kernel
theorem dX2_move_121 : decode cX2_move 121 = .ok (.getfield 46, 3) := by decide +kernel
theorem dX2_move_124 : decode cX2_move 124 = .ok (.ireturn, 1) := by decide +kernel
abbrev cX2_back : ByteArray := prog_5_method_8_code
def yX2_back : MethodName := ⟨RX2, "back", "(I)I"⟩
theorem dX2_back_0 : decode cX2_back 0 = .ok (.iload_n 1, 1) := by decide +kernel
theorem dX2_back_1 : decode cX2_back 1 = .ok (.ifCond .lt 11, 3) := by decide +kernel
theorem dX2_back_4 : decode cX2_back 4 = .ok (.iload_n 1, 1) := by decide +kernel
theorem dX2_back_5 : decode cX2_back 5 = .ok (.aload_n 0, 1) := by decide +kernel
theorem dX2_back_6 : decode cX2_back 6 = .ok (.getfield 46, 3) := by decide +kernel
theorem dX2_back_9 : decode cX2_back 9 = .ok (.if_icmp .le 5, 3) := by decide +kernel
theorem dX2_back_12 : decode cX2_back 12 = .ok (.iconst (-1), 1) := by decide +kernel
theorem dX2_back_13 : decode cX2_back 13 = .ok (.ireturn, 1) := by decide +kernel
theorem dX2_back_14 : decode cX2_back 14 = .ok (.aload_n 0, 1) := by decide +kernel
theorem dX2_back_15 : decode cX2_back 15 = .ok (.dup, 1) := by decide +kernel
theorem dX2_back_16 : decode cX2_back 16 = .ok (.getfield 46, 3) := by decide +kernel
theorem dX2_back_19 : decode cX2_back 19 = .ok (.iload_n 1, 1) := by decide +kernel
theorem dX2_back_20 : decode cX2_back 20 = .ok (.isub, 1) := by decide +kernel
theorem dX2_back_21 : decode cX2_back 21 = .ok (.putfield 46, 3) := by decide +kernel
theorem dX2_back_24 : decode cX2_back 24 = .ok (.aload_n 0, 1) := by decide +kernel
theorem dX2_back_25 : decode cX2_back 25 = .ok (.iconst 0, 1) := by decide +kernel
theorem dX2_back_26 : decode cX2_back 26 = .ok (.putfield 49, 3) := by decide +kernel
theorem dX2_back_29 : decode cX2_back 29 = .ok (.aload_n 0, 1) := by decide +kernel
theorem dX2_back_30 : decode cX2_back 30 = .ok (.getfield 46, 3) := by decide +kernel
theorem dX2_back_33 : decode cX2_back 33 = .ok (.ireturn, 1) := by decide +kernel
abbrev cX2_acceleration : ByteArray := prog_5_method_9_code
def yX2_acceleration : MethodName := ⟨RX2, "acceleration", "(I)Z"⟩
theorem dX2_acceleration_0 : decode cX2_acceleration 0 = .ok (.iload_n 1, 1) := by decide +kernel
theorem dX2_acceleration_1 : decode cX2_acceleration 1 = .ok (.iconst 1, 1) := by decide +kernel
theorem dX2_acceleration_2 : decode cX2_acceleration 2 = .ok (.if_icmp .lt 10, 3) := by decide +kernel
theorem dX2_acceleration_5 : decode cX2_acceleration 5 = .ok (.iload_n 1, 1) := by decide +kernel
theorem dX2_acceleration_6 : decode cX2_acceleration 6 = .ok (.sipush 10000, 3) := by decide +kernel
theorem dX2_acceleration_9 : decode cX2_acceleration 9 = .ok (.if_icmp .le 5, 3) := by decide +kernel
theorem dX2_acceleration_12 : decode cX2_acceleration 12 = .ok (.iconst 0, 1) := by decide +kernel
theorem dX2_acceleration_13 : decode cX2_acceleration 13 = .ok (.ireturn, 1) := by decide +kernel
theorem dX2_acceleration_14 : decode cX2_acceleration 14 = .ok (.aload_n 0, 1) := by decide +kernel
theorem dX2_acceleration_15 : decode cX2_acceleration 15 = .ok (.iload_n 1, 1) := by decide +kernel
theorem dX2_acceleration_16 : decode cX2_acceleration 16 = .ok (.putfield 29, 3) := by decide +kernel
theorem dX2_acceleration_19 : decode cX2_acceleration 19 = .ok (.aload_n 0, 1) := by decide +kernel
theorem dX2_acceleration_20 : decode cX2_acceleration 20 = .ok (.iconst 0, 1) := by decide +kernel
theorem dX2_acceleration_21 : decode cX2_acceleration 21 = .ok (.putfield 49, 3) := by decide +kernel
theorem dX2_acceleration_24 : decode cX2_acceleration 24 = .ok (.iconst 1, 1) := by decide +kernel
theorem dX2_acceleration_25 : decode cX2_acceleration 25 = .ok (.ireturn, 1) := by decide +kernel
abbrev cX2_limit : ByteArray := prog_5_method_10_code
def yX2_limit : MethodName := ⟨RX2, "limit", "(I)I"⟩
theorem dX2_limit_0 : decode cX2_limit 0 = .ok (.iload_n 1, 1) := by decide +kernel
theorem dX2_limit_1 : decode cX2_limit 1 = .ok (.ifCond .lt 11, 3) := by decide +kernel
theorem dX2_limit_4 : decode cX2_limit 4 = .ok (.iload_n 1, 1) := by decide +kernel
theorem dX2_limit_5 : decode cX2_limit 5 = .ok (.aload_n 0, 1) := by decide +kernel
theorem dX2_limit_6 : decode cX2_limit 6 = .ok (.getfield 46, 3) := by decide +kernel
theorem dX2_limit_9 : decode cX2_limit 9 = .ok (.if_icmp .le 5, 3) := by decide +kernel
theorem dX2_limit_12 : decode cX2_limit 12 = .ok (.iconst (-1), 1) := by decide +kernel
theorem dX2_limit_13 : decode cX2_limit 13 = .ok (.ireturn, 1) := by decide +kernel
theorem dX2_limit_14 : decode cX2_limit 14 = .ok (.iload_n 1, 1) := by decide +kernel
theorem dX2_limit_15 : decode cX2_limit 15 = .ok (.ifCond .eq 11, 3) := by decide +kernel
theorem dX2_limit_18 : decode cX2_limit 18 = .ok (.iload_n 1, 1) := by decide +kernel
theorem dX2_limit_19 : decode cX2_limit 19 = .ok (.aload_n 0, 1) := by decide +kernel
theorem dX2_limit_20 : decode cX2_limit 20 = .ok (.getfield 46, 3) := by decide +kernel
theorem dX2_limit_23 : decode cX2_limit 23 = .ok (.if_icmp .ne 5, 3) := by decide +kernel
theorem dX2_limit_26 : decode cX2_limit 26 = .ok (.iconst 0, 1) := by decide +kernel
theorem dX2_limit_27 : decode cX2_limit 27 = .ok (.ireturn, 1) := by decide +kernel
theorem dX2_limit_28 : decode cX2_limit 28 = .ok (.iconst 0, 1) := by decide +kernel
theorem dX2_limit_29 : decode cX2_limit 29 = .ok (.istore_n 2, 1) := by decide +kernel
theorem dX2_limit_30 : decode cX2_limit 30 = .ok (.iconst 0, 1) := by decide +kernel
theorem dX2_limit_31 : decode cX2_limit 31 = .ok (.istore_n 3, 1) := by decide +kernel
theorem dX2_limit_32 : decode cX2_limit 32 = .ok (.iconst 0, 1) := by decide +kernel
theorem dX2_limit_33 : decode cX2_limit 33 = .ok (.istore 4, 2) := by decide +kernel
theorem dX2_limit_35 : decode cX2_limit 35 = .ok (.iconst 0, 1) := by decide +kernel
theorem dX2_limit_36 : decode cX2_limit 36 = .ok (.istore 5, 2) := by decide +kernel
theorem dX2_limit_38 : decode cX2_limit 38 = .ok (.iload 5, 2) := by decide +kernel
theorem dX2_limit_40 : decode cX2_limit 40 = .ok (.iconst 3, 1) := by decide +kernel
theorem dX2_limit_41 : decode cX2_limit 41 = .ok (.if_icmp .ge 63, 3) := by decide +kernel
theorem dX2_limit_44 : decode cX2_limit 44 = .ok (.aload_n 0, 1) := by decide +kernel
theorem dX2_limit_45 : decode cX2_limit 45 = .ok (.getfield 20, 3) := by decide +kernel
theorem dX2_limit_48 : decode cX2_limit 48 = .ok (.iconst 3, 1) := by decide +kernel
theorem dX2_limit_49 : decode cX2_limit 49 = .ok (.iload_n 1, 1) := by decide +kernel
theorem dX2_limit_50 : decode cX2_limit 50 = .ok (.iconst 1, 1) := by decide +kernel
theorem dX2_limit_51 : decode cX2_limit 51 = .ok (.isub, 1) := by decide +kernel
theorem dX2_limit_52 : decode cX2_limit 52 = .ok (.imul, 1) := by decide +kernel
theorem dX2_limit_53 : decode cX2_limit 53 = .ok (.iload 5, 2) := by decide +kernel
theorem dX2_limit_55 : decode cX2_limit 55 = .ok (.iadd, 1) := by decide +kernel
theorem dX2_limit_56 : decode cX2_limit 56 = .ok (.baload, 1) := by decide +kernel
theorem dX2_limit_57 : decode cX2_limit 57 = .ok (.istore 6, 2) := by decide +kernel
theorem dX2_limit_59 : decode cX2_limit 59 = .ok (.aload_n 0, 1) := by decide +kernel
theorem dX2_limit_60 : decode cX2_limit 60 = .ok (.getfield 16, 3) := by decide +kernel
theorem dX2_limit_63 : decode cX2_limit 63 = .ok (.iconst 3, 1) := by decide +kernel
theorem dX2_limit_64 : decode cX2_limit 64 = .ok (.iload_n 1, 1) := by decide +kernel
theorem dX2_limit_65 : decode cX2_limit 65 = .ok (.imul, 1) := by decide +kernel
theorem dX2_limit_66 : decode cX2_limit 66 = .ok (.iload 5, 2) := by decide +kernel
theorem dX2_limit_68 : decode cX2_limit 68 = .ok (.iadd, 1) := by decide +kernel
theorem dX2_limit_69 : decode cX2_limit 69 = .ok (.baload, 1) := by decide +kernel
theorem dX2_limit_70 : decode cX2_limit 70 = .ok (.istore 7, 2) := by decide +kernel
theorem dX2_limit_72 : decode cX2_limit 72 = .ok (.iload_n 2, 1) := by decide +kernel
theorem dX2_limit_73 : decode cX2_limit 73 = .ok (.iload 6, 2) := by decide +kernel
theorem dX2_limit_75 : decode cX2_limit 75 = .ok (.iload 7, 2) := by decide +kernel
theorem dX2_limit_77 : decode cX2_limit 77 = .ok (.imul, 1) := by decide +kernel
theorem dX2_limit_78 : decode cX2_limit 78 = .ok (.iadd, 1) := by decide +kernel
theorem dX2_limit_79 : decode cX2_limit 79 = .ok (.istore_n 2, 1) := by decide +kernel
theorem dX2_limit_80 : decode cX2_limit 80 = .ok (.iload_n 3, 1) := by decide +kernel
theorem dX2_limit_81 : decode cX2_limit 81 = .ok (.iload 6, 2) := by decide +kernel
theorem dX2_limit_83 : decode cX2_limit 83 = .ok (.iload 6, 2) := by decide +kernel
theorem dX2_limit_85 : decode cX2_limit 85 = .ok (.imul, 1) := by decide +kernel
theorem dX2_limit_86 : decode cX2_limit 86 = .ok (.iadd, 1) := by decide +kernel
theorem dX2_limit_87 : decode cX2_limit 87 = .ok (.istore_n 3, 1) := by decide +kernel
theorem dX2_limit_88 : decode cX2_limit 88 = .ok (.iload 4, 2) := by decide +kernel
theorem dX2_limit_90 : decode cX2_limit 90 = .ok (.iload 7, 2) := by decide +kernel
theorem dX2_limit_92 : decode cX2_limit 92 = .ok (.iload 7, 2) := by decide +kernel
theorem dX2_limit_94 : decode cX2_limit 94 = .ok (.imul, 1) := by decide +kernel
theorem dX2_limit_95 : decode cX2_limit 95 = .ok (.iadd, 1) := by decide +kernel
theorem dX2_limit_96 : decode cX2_limit 96 = .ok (.istore 4, 2) := by decide +kernel
theorem dX2_limit_98 : decode cX2_limit 98 = .ok (.iinc 5 1, 3) := by decide +kernel
theorem dX2_limit_101 : decode cX2_limit 101 = .ok (.goto (-63), 3) := by decide +kernel
theorem dX2_limit_104 : decode cX2_limit 104 = .ok (.aload_n 0, 1) := by decide +kernel
theorem dX2_limit_105 : decode cX2_limit 105 = .ok (.getfield 13, 3) := by decide +kernel
theorem dX2_limit_108 : decode cX2_limit 108 = .ok (.iload_n 1, 1) := by decide +kernel
theorem dX2_limit_109 : decode cX2_limit 109 = .ok (.iconst 1, 1) := by decide +kernel
theorem dX2_limit_110 : decode cX2_limit 110 = .ok (.isub, 1) := by decide +kernel
theorem dX2_limit_111 : decode cX2_limit 111 = .ok (.iaload, 1) := by decide +kernel
theorem dX2_limit_112 : decode cX2_limit 112 = .ok (.aload_n 0, 1) := by decide +kernel
theorem dX2_limit_113 : decode cX2_limit 113 = .ok (.getfield 13, 3) := by decide +kernel
theorem dX2_limit_116 : decode cX2_limit 116 = .ok (.iload_n 1, 1) := by decide +kernel
theorem dX2_limit_117 : decode cX2_limit 117 = .ok (.iaload, 1) := by decide +kernel
theorem dX2_limit_118 : decode cX2_limit 118 = .ok (.invokestatic 53, 3) := by decide +kernel
theorem dX2_limit_121 : decode cX2_limit 121 = .ok (.iload_n 2, 1) := by decide +kernel
theorem dX2_limit_122 : decode cX2_limit 122 = .ok (.iconst 0, 1) := by decide +kernel
theorem dX2_limit_123 : decode cX2_limit 123 = .ok (.invokestatic 59, 3) := by decide +kernel
theorem dX2_limit_126 : decode cX2_limit 126 = .ok (.imul, 1) := by decide +kernel
theorem dX2_limit_127 : decode cX2_limit 127 = .ok (.iload_n 3, 1) := by decide +kernel
theorem dX2_limit_128 : decode cX2_limit 128 = .ok (.iload 4, 2) := by decide +kernel
theorem dX2_limit_130 : decode cX2_limit 130 = .ok (.invokestatic 59, 3) := by decide +kernel
theorem dX2_limit_133 : decode cX2_limit 133 = .ok (.idiv, 1) := by decide +kernel
theorem dX2_limit_134 : decode cX2_limit 134 = .ok (.ireturn, 1) := by decide +kernel
abbrev cX2_speed : ByteArray := prog_5_method_15_code
def yX2_speed : MethodName := ⟨RX2, "speed", "(I)I"⟩
theorem dX2_speed_0 : decode cX2_speed 0 = .ok (.aload_n 0, 1) := by decide +kernel
theorem dX2_speed_1 : decode cX2_speed 1 = .ok (.invokevirtual 81, 3) := by decide +kernel
theorem dX2_speed_4 : decode cX2_speed 4 = .ok (.iload_n 1, 1) := by decide +kernel
theorem dX2_speed_5 : decode cX2_speed 5 = .ok (.ifCond .lt 11, 3) := by decide +kernel
theorem dX2_speed_8 : decode cX2_speed 8 = .ok (.iload_n 1, 1) := by decide +kernel
theorem dX2_speed_9 : decode cX2_speed 9 = .ok (.aload_n 0, 1) := by decide +kernel
theorem dX2_speed_10 : decode cX2_speed 10 = .ok (.getfield 46, 3) := by decide +kernel
theorem dX2_speed_13 : decode cX2_speed 13 = .ok (.if_icmp .le 7, 3) := by decide +kernel
theorem dX2_speed_16 : decode cX2_speed 16 = .ok (.iconst (-1), 1) := by decide +kernel
theorem dX2_speed_17 : decode cX2_speed 17 = .ok (.goto 9, 3) := by decide +kernel
theorem dX2_speed_20 : decode cX2_speed 20 = .ok (.aload_n 0, 1) := by decide +kernel
theorem dX2_speed_21 : decode cX2_speed 21 = .ok (.getfield 33, 3) := by decide +kernel
theorem dX2_speed_24 : decode cX2_speed 24 = .ok (.iload_n 1, 1) := by decide +kernel
theorem dX2_speed_25 : decode cX2_speed 25 = .ok (.iaload, 1) := by decide +kernel
theorem dX2_speed_26 : decode cX2_speed 26 = .ok (.ireturn, 1) := by decide +kernel
abbrev cX2_know : ByteArray := prog_5_method_14_code
def yX2_know : MethodName := ⟨RX2, "know", "()V"⟩
theorem dX2_know_0 : decode cX2_know 0 = .ok (.aload_n 0, 1) := by decide +kernel
theorem dX2_know_1 : decode cX2_know 1 = .ok (.getfield 49, 3) := by decide +kernel
theorem dX2_know_4 : decode cX2_know 4 = .ok (.ifCond .eq 4, 3) := by decide +kernel
theorem dX2_know_7 : decode cX2_know 7 = .ok (.return_, 1) := by decide +kernel
theorem dX2_know_8 : decode cX2_know 8 = .ok (.aload_n 0, 1) := by decide +kernel
theorem dX2_know_9 : decode cX2_know 9 = .ok (.iconst 1, 1) := by decide +kernel
theorem dX2_know_10 : decode cX2_know 10 = .ok (.putfield 49, 3) := by decide +kernel
theorem dX2_know_13 : decode cX2_know 13 = .ok (.iconst 0, 1) := by decide +kernel
theorem dX2_know_14 : decode cX2_know 14 = .ok (.istore_n 1, 1) := by decide +kernel
theorem dX2_know_15 : decode cX2_know 15 = .ok (.iload_n 1, 1) := by decide +kernel
theorem dX2_know_16 : decode cX2_know 16 = .ok (.aload_n 0, 1) := by decide +kernel
theorem dX2_know_17 : decode cX2_know 17 = .ok (.getfield 46, 3) := by decide +kernel
theorem dX2_know_20 : decode cX2_know 20 = .ok (.if_icmp .gt 20, 3) := by decide +kernel
theorem dX2_know_23 : decode cX2_know 23 = .ok (.aload_n 0, 1) := by decide +kernel
theorem dX2_know_24 : decode cX2_know 24 = .ok (.getfield 33, 3) := by decide +kernel
theorem dX2_know_27 : decode cX2_know 27 = .ok (.iload_n 1, 1) := by decide +kernel
theorem dX2_know_28 : decode cX2_know 28 = .ok (.aload_n 0, 1) := by decide +kernel
theorem dX2_know_29 : decode cX2_know 29 = .ok (.iload_n 1, 1) := by decide +kernel
theorem dX2_know_30 : decode cX2_know 30 = .ok (.invokevirtual 70, 3) := by decide +kernel
theorem dX2_know_33 : decode cX2_know 33 = .ok (.iastore, 1) := by decide +kernel
theorem dX2_know_34 : decode cX2_know 34 = .ok (.iinc 1 1, 3) := by decide +kernel
theorem dX2_know_37 : decode cX2_know 37 = .ok (.goto (-22), 3) := by decide +kernel
theorem dX2_know_40 : decode cX2_know 40 = .ok (.iconst 1, 1) := by decide +kernel
theorem dX2_know_41 : decode cX2_know 41 = .ok (.istore_n 1, 1) := by decide +kernel
theorem dX2_know_42 : decode cX2_know 42 = .ok (.iload_n 1, 1) := by decide +kernel
theorem dX2_know_43 : decode cX2_know 43 = .ok (.ifCond .eq 103, 3) := by decide +kernel
theorem dX2_know_46 : decode cX2_know 46 = .ok (.iconst 0, 1) := by decide +kernel
theorem dX2_know_47 : decode cX2_know 47 = .ok (.istore_n 1, 1) := by decide +kernel
theorem dX2_know_48 : decode cX2_know 48 = .ok (.iconst 0, 1) := by decide +kernel
theorem dX2_know_49 : decode cX2_know 49 = .ok (.istore_n 2, 1) := by decide +kernel
theorem dX2_know_50 : decode cX2_know 50 = .ok (.iload_n 2, 1) := by decide +kernel
theorem dX2_know_51 : decode cX2_know 51 = .ok (.aload_n 0, 1) := by decide +kernel
theorem dX2_know_52 : decode cX2_know 52 = .ok (.getfield 46, 3) := by decide +kernel
theorem dX2_know_55 : decode cX2_know 55 = .ok (.if_icmp .ge 40, 3) := by decide +kernel
theorem dX2_know_58 : decode cX2_know 58 = .ok (.aload_n 0, 1) := by decide +kernel
theorem dX2_know_59 : decode cX2_know 59 = .ok (.iload_n 2, 1) := by decide +kernel
theorem dX2_know_60 : decode cX2_know 60 = .ok (.iconst 1, 1) := by decide +kernel
theorem dX2_know_61 : decode cX2_know 61 = .ok (.iadd, 1) := by decide +kernel
theorem dX2_know_62 : decode cX2_know 62 = .ok (.aload_n 0, 1) := by decide +kernel
theorem dX2_know_63 : decode cX2_know 63 = .ok (.aload_n 0, 1) := by decide +kernel
theorem dX2_know_64 : decode cX2_know 64 = .ok (.getfield 33, 3) := by decide +kernel
theorem dX2_know_67 : decode cX2_know 67 = .ok (.iload_n 2, 1) := by decide +kernel
theorem dX2_know_68 : decode cX2_know 68 = .ok (.iaload, 1) := by decide +kernel
theorem dX2_know_69 : decode cX2_know 69 = .ok (.iload_n 2, 1) := by decide +kernel
theorem dX2_know_70 : decode cX2_know 70 = .ok (.invokevirtual 74, 3) := by decide +kernel
theorem dX2_know_73 : decode cX2_know 73 = .ok (.invokevirtual 77, 3) := by decide +kernel
theorem dX2_know_76 : decode cX2_know 76 = .ok (.ifCond .ne 7, 3) := by decide +kernel
theorem dX2_know_79 : decode cX2_know 79 = .ok (.iload_n 1, 1) := by decide +kernel
theorem dX2_know_80 : decode cX2_know 80 = .ok (.ifCond .eq 7, 3) := by decide +kernel
theorem dX2_know_83 : decode cX2_know 83 = .ok (.iconst 1, 1) := by decide +kernel
theorem dX2_know_84 : decode cX2_know 84 = .ok (.goto 4, 3) := by decide +kernel
theorem dX2_know_87 : decode cX2_know 87 = .ok (.iconst 0, 1) := by decide +kernel
theorem dX2_know_88 : decode cX2_know 88 = .ok (.istore_n 1, 1) := by decide +kernel
theorem dX2_know_89 : decode cX2_know 89 = .ok (.iinc 2 1, 3) := by decide +kernel
theorem dX2_know_92 : decode cX2_know 92 = .ok (.goto (-42), 3) := by decide +kernel
theorem dX2_know_95 : decode cX2_know 95 = .ok (.aload_n 0, 1) := by decide +kernel
theorem dX2_know_96 : decode cX2_know 96 = .ok (.getfield 46, 3) := by decide +kernel
theorem dX2_know_99 : decode cX2_know 99 = .ok (.istore_n 2, 1) := by decide +kernel
theorem dX2_know_100 : decode cX2_know 100 = .ok (.iload_n 2, 1) := by decide +kernel
theorem dX2_know_101 : decode cX2_know 101 = .ok (.ifCond .le 42, 3) := by decide +kernel
theorem dX2_know_104 : decode cX2_know 104 = .ok (.aload_n 0, 1) := by decide +kernel
theorem dX2_know_105 : decode cX2_know 105 = .ok (.iload_n 2, 1) := by decide +kernel
theorem dX2_know_106 : decode cX2_know 106 = .ok (.iconst 1, 1) := by decide +kernel
theorem dX2_know_107 : decode cX2_know 107 = .ok (.isub, 1) := by decide +kernel
theorem dX2_know_108 : decode cX2_know 108 = .ok (.aload_n 0, 1) := by decide +kernel
theorem dX2_know_109 : decode cX2_know 109 = .ok (.aload_n 0, 1) := by decide +kernel
theorem dX2_know_110 : decode cX2_know 110 = .ok (.getfield 33, 3) := by decide +kernel
theorem dX2_know_113 : decode cX2_know 113 = .ok (.iload_n 2, 1) := by decide +kernel
theorem dX2_know_114 : decode cX2_know 114 = .ok (.iaload, 1) := by decide +kernel
theorem dX2_know_115 : decode cX2_know 115 = .ok (.iload_n 2, 1) := by decide +kernel
theorem dX2_know_116 : decode cX2_know 116 = .ok (.iconst 1, 1) := by decide +kernel
theorem dX2_know_117 : decode cX2_know 117 = .ok (.isub, 1) := by decide +kernel
theorem dX2_know_118 : decode cX2_know 118 = .ok (.invokevirtual 74, 3) := by decide +kernel
theorem dX2_know_121 : decode cX2_know 121 = .ok (.invokevirtual 77, 3) := by decide +kernel
theorem dX2_know_124 : decode cX2_know 124 = .ok (.ifCond .ne 7, 3) := by decide +kernel
theorem dX2_know_127 : decode cX2_know 127 = .ok (.iload_n 1, 1) := by decide +kernel
theorem dX2_know_128 : decode cX2_know 128 = .ok (.ifCond .eq 7, 3) := by decide +kernel
theorem dX2_know_131 : decode cX2_know 131 = .ok (.iconst 1, 1) := by decide +kernel
theorem dX2_know_132 : decode cX2_know 132 = .ok (.goto 4, 3) := by decide +kernel
theorem dX2_know_135 : decode cX2_know 135 = .ok (.iconst 0, 1) := by decide +kernel
theorem dX2_know_136 : decode cX2_know 136 = .ok (.istore_n 1, 1) := by decide +kernel
theorem dX2_know_137 : decode cX2_know 137 = .ok (.iinc 2 (-1), 3) := by decide +kernel
theorem dX2_know_140 : decode cX2_know 140 = .ok (.goto (-40), 3) := by decide +kernel
theorem dX2_know_143 : decode cX2_know 143 = .ok (.goto (-101), 3) := by decide +kernel
theorem dX2_know_146 : decode cX2_know 146 = .ok (.return_, 1) := by decide +kernel
abbrev cX2_reach : ByteArray := prog_5_method_12_code
def yX2_reach : MethodName := ⟨RX2, "reach", "(II)I"⟩
theorem dX2_reach_0 : decode cX2_reach 0 = .ok (.iload_n 1, 1) := by decide +kernel
theorem dX2_reach_1 : decode cX2_reach 1 = .ok (.i2l, 1) := by decide +kernel
theorem dX2_reach_2 : decode cX2_reach 2 = .ok (.iload_n 1, 1) := by decide +kernel
theorem dX2_reach_3 : decode cX2_reach 3 = .ok (.i2l, 1) := by decide +kernel
theorem dX2_reach_4 : decode cX2_reach 4 = .ok (.lmul, 1) := by decide +kernel
theorem dX2_reach_5 : decode cX2_reach 5 = .ok (.ldc2_w 64, 3) := by decide +kernel
theorem dX2_reach_8 : decode cX2_reach 8 = .ok (.aload_n 0, 1) := by decide +kernel
theorem dX2_reach_9 : decode cX2_reach 9 = .ok (.getfield 29, 3) := by decide +kernel
theorem dX2_reach_12 : decode cX2_reach 12 = .ok (.i2l, 1) := by decide +kernel
theorem dX2_reach_13 : decode cX2_reach 13 = .ok (.lmul, 1) := by decide +kernel
theorem dX2_reach_14 : decode cX2_reach 14 = .ok (.aload_n 0, 1) := by decide +kernel
theorem dX2_reach_15 : decode cX2_reach 15 = .ok (.getfield 9, 3) := by decide +kernel
theorem dX2_reach_18 : decode cX2_reach 18 = .ok (.iload_n 2, 1) := by decide +kernel
theorem dX2_reach_19 : decode cX2_reach 19 = .ok (.iaload, 1) := by decide +kernel
theorem dX2_reach_20 : decode cX2_reach 20 = .ok (.i2l, 1) := by decide +kernel
theorem dX2_reach_21 : decode cX2_reach 21 = .ok (.lmul, 1) := by decide +kernel
theorem dX2_reach_22 : decode cX2_reach 22 = .ok (.ladd, 1) := by decide +kernel
theorem dX2_reach_23 : decode cX2_reach 23 = .ok (.invokestatic 66, 3) := by decide +kernel
theorem dX2_reach_26 : decode cX2_reach 26 = .ok (.l2i, 1) := by decide +kernel
theorem dX2_reach_27 : decode cX2_reach 27 = .ok (.ireturn, 1) := by decide +kernel
abbrev cX2_root : ByteArray := prog_5_method_11_code
def yX2_root : MethodName := ⟨RX2, "root", "(J)J"⟩
theorem dX2_root_0 : decode cX2_root 0 = .ok (.lconst 0, 1) := by decide +kernel
theorem dX2_root_1 : decode cX2_root 1 = .ok (.lstore_n 2, 1) := by decide +kernel
theorem dX2_root_2 : decode cX2_root 2 = .ok (.ldc2_w 62, 3) := by decide +kernel
theorem dX2_root_5 : decode cX2_root 5 = .ok (.lstore 4, 2) := by decide +kernel
theorem dX2_root_7 : decode cX2_root 7 = .ok (.lload_n 2, 1) := by decide +kernel
theorem dX2_root_8 : decode cX2_root 8 = .ok (.lload 4, 2) := by decide +kernel
theorem dX2_root_10 : decode cX2_root 10 = .ok (.lcmp, 1) := by decide +kernel
theorem dX2_root_11 : decode cX2_root 11 = .ok (.ifCond .ge 40, 3) := by decide +kernel
theorem dX2_root_14 : decode cX2_root 14 = .ok (.lload_n 2, 1) := by decide +kernel
theorem dX2_root_15 : decode cX2_root 15 = .ok (.lload 4, 2) := by decide +kernel
theorem dX2_root_17 : decode cX2_root 17 = .ok (.ladd, 1) := by decide +kernel
theorem dX2_root_18 : decode cX2_root 18 = .ok (.lconst 1, 1) := by decide +kernel
theorem dX2_root_19 : decode cX2_root 19 = .ok (.ladd, 1) := by decide +kernel
theorem dX2_root_20 : decode cX2_root 20 = .ok (.ldc2_w 64, 3) := by decide +kernel
theorem dX2_root_23 : decode cX2_root 23 = .ok (.ldiv, 1) := by decide +kernel
theorem dX2_root_24 : decode cX2_root 24 = .ok (.lstore 6, 2) := by decide +kernel
theorem dX2_root_26 : decode cX2_root 26 = .ok (.lload 6, 2) := by decide +kernel
theorem dX2_root_28 : decode cX2_root 28 = .ok (.lload 6, 2) := by decide +kernel
theorem dX2_root_30 : decode cX2_root 30 = .ok (.lmul, 1) := by decide +kernel
theorem dX2_root_31 : decode cX2_root 31 = .ok (.lload_n 0, 1) := by decide +kernel
theorem dX2_root_32 : decode cX2_root 32 = .ok (.lcmp, 1) := by decide +kernel
theorem dX2_root_33 : decode cX2_root 33 = .ok (.ifCond .gt 9, 3) := by decide +kernel
theorem dX2_root_36 : decode cX2_root 36 = .ok (.lload 6, 2) := by decide +kernel
theorem dX2_root_38 : decode cX2_root 38 = .ok (.lstore_n 2, 1) := by decide +kernel
theorem dX2_root_39 : decode cX2_root 39 = .ok (.goto 9, 3) := by decide +kernel
theorem dX2_root_42 : decode cX2_root 42 = .ok (.lload 6, 2) := by decide +kernel
theorem dX2_root_44 : decode cX2_root 44 = .ok (.lconst 1, 1) := by decide +kernel
theorem dX2_root_45 : decode cX2_root 45 = .ok (.lsub, 1) := by decide +kernel
theorem dX2_root_46 : decode cX2_root 46 = .ok (.lstore 4, 2) := by decide +kernel
theorem dX2_root_48 : decode cX2_root 48 = .ok (.goto (-41), 3) := by decide +kernel
theorem dX2_root_51 : decode cX2_root 51 = .ok (.lload_n 2, 1) := by decide +kernel
theorem dX2_root_52 : decode cX2_root 52 = .ok (.lreturn, 1) := by decide +kernel
abbrev cX2_lowered : ByteArray := prog_5_method_13_code
def yX2_lowered : MethodName := ⟨RX2, "lowered", "(II)Z"⟩
theorem dX2_lowered_0 : decode cX2_lowered 0 = .ok (.aload_n 0, 1) := by decide +kernel
theorem dX2_lowered_1 : decode cX2_lowered 1 = .ok (.getfield 33, 3) := by decide +kernel
theorem dX2_lowered_4 : decode cX2_lowered 4 = .ok (.iload_n 1, 1) := by decide +kernel
theorem dX2_lowered_5 : decode cX2_lowered 5 = .ok (.iaload, 1) := by decide +kernel
theorem dX2_lowered_6 : decode cX2_lowered 6 = .ok (.iload_n 2, 1) := by decide +kernel
theorem dX2_lowered_7 : decode cX2_lowered 7 = .ok (.if_icmp .gt 5, 3) := by decide +kernel
theorem dX2_lowered_10 : decode cX2_lowered 10 = .ok (.iconst 0, 1) := by decide +kernel
theorem dX2_lowered_11 : decode cX2_lowered 11 = .ok (.ireturn, 1) := by decide +kernel
theorem dX2_lowered_12 : decode cX2_lowered 12 = .ok (.aload_n 0, 1) := by decide +kernel
theorem dX2_lowered_13 : decode cX2_lowered 13 = .ok (.getfield 33, 3) := by decide +kernel
theorem dX2_lowered_16 : decode cX2_lowered 16 = .ok (.iload_n 1, 1) := by decide +kernel
theorem dX2_lowered_17 : decode cX2_lowered 17 = .ok (.iload_n 2, 1) := by decide +kernel
theorem dX2_lowered_18 : decode cX2_lowered 18 = .ok (.iastore, 1) := by decide +kernel
theorem dX2_lowered_19 : decode cX2_lowered 19 = .ok (.iconst 1, 1) := by decide +kernel
theorem dX2_lowered_20 : decode cX2_lowered 20 = .ok (.ireturn, 1) := by decide +kernel
abbrev cX2_sum : ByteArray := prog_5_method_16_code
def yX2_sum : MethodName := ⟨RX2, "sum", "()J"⟩
theorem dX2_sum_0 : decode cX2_sum 0 = .ok (.aload_n 0, 1) := by decide +kernel
theorem dX2_sum_1 : decode cX2_sum 1 = .ok (.invokevirtual 81, 3) := by decide +kernel
theorem dX2_sum_4 : decode cX2_sum 4 = .ok (.lconst 0, 1) := by decide +kernel
theorem dX2_sum_5 : decode cX2_sum 5 = .ok (.lstore_n 1, 1) := by decide +kernel
theorem dX2_sum_6 : decode cX2_sum 6 = .ok (.iconst 0, 1) := by decide +kernel
theorem dX2_sum_7 : decode cX2_sum 7 = .ok (.istore_n 3, 1) := by decide +kernel
theorem dX2_sum_8 : decode cX2_sum 8 = .ok (.iload_n 3, 1) := by decide +kernel
theorem dX2_sum_9 : decode cX2_sum 9 = .ok (.aload_n 0, 1) := by decide +kernel
theorem dX2_sum_10 : decode cX2_sum 10 = .ok (.getfield 46, 3) := by decide +kernel
theorem dX2_sum_13 : decode cX2_sum 13 = .ok (.if_icmp .gt 19, 3) := by decide +kernel
theorem dX2_sum_16 : decode cX2_sum 16 = .ok (.lload_n 1, 1) := by decide +kernel
theorem dX2_sum_17 : decode cX2_sum 17 = .ok (.aload_n 0, 1) := by decide +kernel
theorem dX2_sum_18 : decode cX2_sum 18 = .ok (.getfield 33, 3) := by decide +kernel
theorem dX2_sum_21 : decode cX2_sum 21 = .ok (.iload_n 3, 1) := by decide +kernel
theorem dX2_sum_22 : decode cX2_sum 22 = .ok (.iaload, 1) := by decide +kernel
theorem dX2_sum_23 : decode cX2_sum 23 = .ok (.i2l, 1) := by decide +kernel
theorem dX2_sum_24 : decode cX2_sum 24 = .ok (.ladd, 1) := by decide +kernel
theorem dX2_sum_25 : decode cX2_sum 25 = .ok (.lstore_n 1, 1) := by decide +kernel
theorem dX2_sum_26 : decode cX2_sum 26 = .ok (.iinc 3 1, 3) := by decide +kernel
theorem dX2_sum_29 : decode cX2_sum 29 = .ok (.goto (-21), 3) := by decide +kernel
theorem dX2_sum_32 : decode cX2_sum 32 = .ok (.lload_n 1, 1) := by decide +kernel
theorem dX2_sum_33 : decode cX2_sum 33 = .ok (.lreturn, 1) := by decide +kernel
abbrev cX2_below : ByteArray := prog_5_method_17_code
def yX2_below : MethodName := ⟨RX2, "below", "()I"⟩
theorem dX2_below_0 : decode cX2_below 0 = .ok (.aload_n 0, 1) := by decide +kernel
theorem dX2_below_1 : decode cX2_below 1 = .ok (.invokevirtual 81, 3) := by decide +kernel
theorem dX2_below_4 : decode cX2_below 4 = .ok (.iconst 0, 1) := by decide +kernel
theorem dX2_below_5 : decode cX2_below 5 = .ok (.istore_n 1, 1) := by decide +kernel
theorem dX2_below_6 : decode cX2_below 6 = .ok (.iconst 0, 1) := by decide +kernel
theorem dX2_below_7 : decode cX2_below 7 = .ok (.istore_n 2, 1) := by decide +kernel
theorem dX2_below_8 : decode cX2_below 8 = .ok (.iload_n 2, 1) := by decide +kernel
theorem dX2_below_9 : decode cX2_below 9 = .ok (.aload_n 0, 1) := by decide +kernel
theorem dX2_below_10 : decode cX2_below 10 = .ok (.getfield 46, 3) := by decide +kernel
theorem dX2_below_13 : decode cX2_below 13 = .ok (.if_icmp .gt 26, 3) := by decide +kernel
theorem dX2_below_16 : decode cX2_below 16 = .ok (.aload_n 0, 1) := by decide +kernel
theorem dX2_below_17 : decode cX2_below 17 = .ok (.getfield 33, 3) := by decide +kernel
theorem dX2_below_20 : decode cX2_below 20 = .ok (.iload_n 2, 1) := by decide +kernel
theorem dX2_below_21 : decode cX2_below 21 = .ok (.iaload, 1) := by decide +kernel
theorem dX2_below_22 : decode cX2_below 22 = .ok (.aload_n 0, 1) := by decide +kernel
theorem dX2_below_23 : decode cX2_below 23 = .ok (.iload_n 2, 1) := by decide +kernel
theorem dX2_below_24 : decode cX2_below 24 = .ok (.invokevirtual 70, 3) := by decide +kernel
theorem dX2_below_27 : decode cX2_below 27 = .ok (.if_icmp .ge 6, 3) := by decide +kernel
theorem dX2_below_30 : decode cX2_below 30 = .ok (.iinc 1 1, 3) := by decide +kernel
theorem dX2_below_33 : decode cX2_below 33 = .ok (.iinc 2 1, 3) := by decide +kernel
theorem dX2_below_36 : decode cX2_below 36 = .ok (.goto (-28), 3) := by decide +kernel
theorem dX2_below_39 : decode cX2_below 39 = .ok (.iload_n 1, 1) := by decide +kernel
theorem dX2_below_40 : decode cX2_below 40 = .ok (.ireturn, 1) := by decide +kernel
theorem q10 : (Jvm.Cond.initialized "SpeedRowsModel") ∈ lw_all := lw_g (lw_at lw_m1 4 rfl) rfl
theorem q177 : (Jvm.Cond.instantiable "SpeedRowsModel" (10 : Nat)) ∈ lw_all := lw_g (lw_at lw_m1 171 rfl) rfl
theorem q179 : (Jvm.Cond.instanceMethod ({ cls := "SpeedRowsModel", name := "<init>", desc := "()V" } : Jvm.MethodName)) ∈ lw_all := lw_g (lw_at lw_m1 173 rfl) rfl
theorem q180 : (Jvm.Cond.code ({ cls := "SpeedRowsModel", name := "<init>", desc := "()V" } : Jvm.MethodName) prog_5_method_1_code (1 : Nat) (Option.none : Option Jvm.ClassFile.FieldType)) ∈ lw_all := lw_g (lw_at lw_m1 174 rfl) rfl
theorem q181 : (Jvm.Cond.methodLink "SpeedRowsModel" (1 : Nat) ({ cls := "java/lang/Object", name := "<init>", desc := "()V" } : Jvm.MethodName)) ∈ lw_all := lw_g (lw_at lw_m1 175 rfl) rfl
theorem q182 : (Jvm.Cond.fieldLink "SpeedRowsModel" (9 : Nat) "SpeedRowsModel" "ticks" "[I") ∈ lw_all := lw_g (lw_at lw_m1 176 rfl) rfl
theorem q183 : (Jvm.Cond.fieldLink "SpeedRowsModel" (13 : Nat) "SpeedRowsModel" "feeds" "[I") ∈ lw_all := lw_g (lw_at lw_m1 177 rfl) rfl
theorem q184 : (Jvm.Cond.fieldLink "SpeedRowsModel" (16 : Nat) "SpeedRowsModel" "firsts" "[B") ∈ lw_all := lw_g (lw_at lw_m1 178 rfl) rfl
theorem q185 : (Jvm.Cond.fieldLink "SpeedRowsModel" (20 : Nat) "SpeedRowsModel" "lasts" "[B") ∈ lw_all := lw_g (lw_at lw_m1 179 rfl) rfl
theorem q186 : (Jvm.Cond.fieldLink "SpeedRowsModel" (23 : Nat) "SpeedRowsModel" "first" "[B") ∈ lw_all := lw_g (lw_at lw_m1 180 rfl) rfl
theorem q187 : (Jvm.Cond.fieldLink "SpeedRowsModel" (26 : Nat) "SpeedRowsModel" "last" "[B") ∈ lw_all := lw_g (lw_at lw_m1 181 rfl) rfl
theorem q188 : (Jvm.Cond.fieldLink "SpeedRowsModel" (46 : Nat) "SpeedRowsModel" "moves" "I") ∈ lw_all := lw_g (lw_at lw_m1 182 rfl) rfl
theorem q189 : (Jvm.Cond.fieldLink "SpeedRowsModel" (29 : Nat) "SpeedRowsModel" "most" "I") ∈ lw_all := lw_g (lw_at lw_m1 183 rfl) rfl
theorem q190 : (Jvm.Cond.fieldLink "SpeedRowsModel" (33 : Nat) "SpeedRowsModel" "speeds" "[I") ∈ lw_all := lw_g (lw_at lw_m1 184 rfl) rfl
theorem q191 : (Jvm.Cond.fieldLink "SpeedRowsModel" (49 : Nat) "SpeedRowsModel" "isKnown" "Z") ∈ lw_all := lw_g (lw_at lw_m1 185 rfl) rfl
theorem q192 : (Jvm.Cond.laysFinal "SpeedRowsModel" "SpeedRowsModel" "ticks" "[I") ∈ lw_all := lw_g (lw_at lw_m1 186 rfl) rfl
theorem q193 : (Jvm.Cond.soleField "SpeedRowsModel" "ticks") ∈ lw_all := lw_g (lw_at lw_m1 187 rfl) rfl
theorem q194 : (Jvm.Cond.laysFinal "SpeedRowsModel" "SpeedRowsModel" "feeds" "[I") ∈ lw_all := lw_g (lw_at lw_m1 188 rfl) rfl
theorem q195 : (Jvm.Cond.soleField "SpeedRowsModel" "feeds") ∈ lw_all := lw_g (lw_at lw_m1 189 rfl) rfl
theorem q196 : (Jvm.Cond.laysFinal "SpeedRowsModel" "SpeedRowsModel" "firsts" "[B") ∈ lw_all := lw_g (lw_at lw_m1 190 rfl) rfl
theorem q197 : (Jvm.Cond.soleField "SpeedRowsModel" "firsts") ∈ lw_all := lw_g (lw_at lw_m1 191 rfl) rfl
theorem q198 : (Jvm.Cond.laysFinal "SpeedRowsModel" "SpeedRowsModel" "lasts" "[B") ∈ lw_all := lw_g (lw_at lw_m1 192 rfl) rfl
theorem q199 : (Jvm.Cond.soleField "SpeedRowsModel" "lasts") ∈ lw_all := lw_g (lw_at lw_m1 193 rfl) rfl
theorem q200 : (Jvm.Cond.laysFinal "SpeedRowsModel" "SpeedRowsModel" "first" "[B") ∈ lw_all := lw_g (lw_at lw_m1 194 rfl) rfl
theorem q201 : (Jvm.Cond.soleField "SpeedRowsModel" "first") ∈ lw_all := lw_g (lw_at lw_m1 195 rfl) rfl
theorem q202 : (Jvm.Cond.laysFinal "SpeedRowsModel" "SpeedRowsModel" "last" "[B") ∈ lw_all := lw_g (lw_at lw_m1 196 rfl) rfl
theorem q203 : (Jvm.Cond.soleField "SpeedRowsModel" "last") ∈ lw_all := lw_g (lw_at lw_m1 197 rfl) rfl
theorem q204 : (Jvm.Cond.lays "SpeedRowsModel" "SpeedRowsModel" "moves" "I") ∈ lw_all := lw_g (lw_at lw_m1 198 rfl) rfl
theorem q205 : (Jvm.Cond.soleField "SpeedRowsModel" "moves") ∈ lw_all := lw_g (lw_at lw_m1 199 rfl) rfl
theorem q206 : (Jvm.Cond.lays "SpeedRowsModel" "SpeedRowsModel" "most" "I") ∈ lw_all := lw_g (lw_at lw_m1 200 rfl) rfl
theorem q207 : (Jvm.Cond.soleField "SpeedRowsModel" "most") ∈ lw_all := lw_g (lw_at lw_m1 201 rfl) rfl
theorem q208 : (Jvm.Cond.laysFinal "SpeedRowsModel" "SpeedRowsModel" "speeds" "[I") ∈ lw_all := lw_g (lw_at lw_m1 202 rfl) rfl
theorem q209 : (Jvm.Cond.soleField "SpeedRowsModel" "speeds") ∈ lw_all := lw_g (lw_at lw_m1 203 rfl) rfl
theorem q210 : (Jvm.Cond.lays "SpeedRowsModel" "SpeedRowsModel" "isKnown" "Z") ∈ lw_all := lw_g (lw_at lw_m1 204 rfl) rfl
theorem q211 : (Jvm.Cond.soleField "SpeedRowsModel" "isKnown") ∈ lw_all := lw_g (lw_at lw_m1 205 rfl) rfl
theorem q212 : (Jvm.Cond.superclass "SpeedRowsModel" "java/lang/Object") ∈ lw_all := lw_g (lw_at lw_m1 206 rfl) rfl
theorem q215 : (Jvm.Cond.instanceMethod ({ cls := "SpeedRowsModel", name := "first", desc := "(III)Z" } : Jvm.MethodName)) ∈ lw_all := lw_g (lw_at lw_m1 209 rfl) rfl
theorem q216 : (Jvm.Cond.selects "SpeedRowsModel" ({ cls := "SpeedRowsModel", name := "first", desc := "(III)Z" } : Jvm.MethodName) ({ cls := "SpeedRowsModel", name := "first", desc := "(III)Z" } : Jvm.MethodName)) ∈ lw_all := lw_g (lw_at lw_m1 210 rfl) rfl
theorem q217 : (Jvm.Cond.code ({ cls := "SpeedRowsModel", name := "first", desc := "(III)Z" } : Jvm.MethodName) prog_5_method_5_code (4 : Nat) (Option.some Jvm.ClassFile.FieldType.boolean)) ∈ lw_all := lw_g (lw_at lw_m1 211 rfl) rfl
theorem q218 : (Jvm.Cond.methodLink "SpeedRowsModel" (40 : Nat) ({ cls := "SpeedRowsModel", name := "told", desc := "([BIII)Z" } : Jvm.MethodName)) ∈ lw_all := lw_g (lw_at lw_m1 212 rfl) rfl
theorem q219 : (Jvm.Cond.static ({ cls := "SpeedRowsModel", name := "told", desc := "([BIII)Z" } : Jvm.MethodName)) ∈ lw_all := lw_g (lw_at lw_m1 213 rfl) rfl
theorem q220 : (Jvm.Cond.code ({ cls := "SpeedRowsModel", name := "told", desc := "([BIII)Z" } : Jvm.MethodName) prog_5_method_4_code (4 : Nat) (Option.some Jvm.ClassFile.FieldType.boolean)) ∈ lw_all := lw_g (lw_at lw_m1 214 rfl) rfl
theorem q221 : (Jvm.Cond.methodLink "SpeedRowsModel" (36 : Nat) ({ cls := "SpeedRowsModel", name := "isStep", desc := "(III)Z" } : Jvm.MethodName)) ∈ lw_all := lw_g (lw_at lw_m1 215 rfl) rfl
theorem q222 : (Jvm.Cond.static ({ cls := "SpeedRowsModel", name := "isStep", desc := "(III)Z" } : Jvm.MethodName)) ∈ lw_all := lw_g (lw_at lw_m1 216 rfl) rfl
theorem q223 : (Jvm.Cond.code ({ cls := "SpeedRowsModel", name := "isStep", desc := "(III)Z" } : Jvm.MethodName) prog_5_method_3_code (3 : Nat) (Option.some Jvm.ClassFile.FieldType.boolean)) ∈ lw_all := lw_g (lw_at lw_m1 217 rfl) rfl
theorem q225 : (Jvm.Cond.instanceMethod ({ cls := "SpeedRowsModel", name := "last", desc := "(III)Z" } : Jvm.MethodName)) ∈ lw_all := lw_g (lw_at lw_m1 219 rfl) rfl
theorem q226 : (Jvm.Cond.selects "SpeedRowsModel" ({ cls := "SpeedRowsModel", name := "last", desc := "(III)Z" } : Jvm.MethodName) ({ cls := "SpeedRowsModel", name := "last", desc := "(III)Z" } : Jvm.MethodName)) ∈ lw_all := lw_g (lw_at lw_m1 220 rfl) rfl
theorem q227 : (Jvm.Cond.code ({ cls := "SpeedRowsModel", name := "last", desc := "(III)Z" } : Jvm.MethodName) prog_5_method_6_code (4 : Nat) (Option.some Jvm.ClassFile.FieldType.boolean)) ∈ lw_all := lw_g (lw_at lw_m1 221 rfl) rfl
theorem q229 : (Jvm.Cond.instanceMethod ({ cls := "SpeedRowsModel", name := "move", desc := "(II)I" } : Jvm.MethodName)) ∈ lw_all := lw_g (lw_at lw_m1 223 rfl) rfl
theorem q230 : (Jvm.Cond.selects "SpeedRowsModel" ({ cls := "SpeedRowsModel", name := "move", desc := "(II)I" } : Jvm.MethodName) ({ cls := "SpeedRowsModel", name := "move", desc := "(II)I" } : Jvm.MethodName)) ∈ lw_all := lw_g (lw_at lw_m1 224 rfl) rfl
theorem q231 : (Jvm.Cond.code ({ cls := "SpeedRowsModel", name := "move", desc := "(II)I" } : Jvm.MethodName) prog_5_method_7_code (4 : Nat) (Option.some Jvm.ClassFile.FieldType.int)) ∈ lw_all := lw_g (lw_at lw_m1 225 rfl) rfl
theorem q232 : (Jvm.Cond.constant "SpeedRowsModel" (44 : Nat) (100000 : Int32)) ∈ lw_all := lw_g (lw_at lw_m1 226 rfl) rfl
theorem q233 : (Jvm.Cond.constant "SpeedRowsModel" (45 : Nat) (99999 : Int32)) ∈ lw_all := lw_g (lw_at lw_m1 227 rfl) rfl
theorem q235 : (Jvm.Cond.instanceMethod ({ cls := "SpeedRowsModel", name := "back", desc := "(I)I" } : Jvm.MethodName)) ∈ lw_all := lw_g (lw_at lw_m1 229 rfl) rfl
theorem q236 : (Jvm.Cond.selects "SpeedRowsModel" ({ cls := "SpeedRowsModel", name := "back", desc := "(I)I" } : Jvm.MethodName) ({ cls := "SpeedRowsModel", name := "back", desc := "(I)I" } : Jvm.MethodName)) ∈ lw_all := lw_g (lw_at lw_m1 230 rfl) rfl
theorem q237 : (Jvm.Cond.code ({ cls := "SpeedRowsModel", name := "back", desc := "(I)I" } : Jvm.MethodName) prog_5_method_8_code (2 : Nat) (Option.some Jvm.ClassFile.FieldType.int)) ∈ lw_all := lw_g (lw_at lw_m1 231 rfl) rfl
theorem q239 : (Jvm.Cond.instanceMethod ({ cls := "SpeedRowsModel", name := "acceleration", desc := "(I)Z" } : Jvm.MethodName)) ∈ lw_all := lw_g (lw_at lw_m1 233 rfl) rfl
theorem q240 : (Jvm.Cond.selects "SpeedRowsModel" ({ cls := "SpeedRowsModel", name := "acceleration", desc := "(I)Z" } : Jvm.MethodName) ({ cls := "SpeedRowsModel", name := "acceleration", desc := "(I)Z" } : Jvm.MethodName)) ∈ lw_all := lw_g (lw_at lw_m1 234 rfl) rfl
theorem q241 : (Jvm.Cond.code ({ cls := "SpeedRowsModel", name := "acceleration", desc := "(I)Z" } : Jvm.MethodName) prog_5_method_9_code (2 : Nat) (Option.some Jvm.ClassFile.FieldType.boolean)) ∈ lw_all := lw_g (lw_at lw_m1 235 rfl) rfl
theorem q243 : (Jvm.Cond.instanceMethod ({ cls := "SpeedRowsModel", name := "limit", desc := "(I)I" } : Jvm.MethodName)) ∈ lw_all := lw_g (lw_at lw_m1 237 rfl) rfl
theorem q244 : (Jvm.Cond.selects "SpeedRowsModel" ({ cls := "SpeedRowsModel", name := "limit", desc := "(I)I" } : Jvm.MethodName) ({ cls := "SpeedRowsModel", name := "limit", desc := "(I)I" } : Jvm.MethodName)) ∈ lw_all := lw_g (lw_at lw_m1 238 rfl) rfl
theorem q245 : (Jvm.Cond.code ({ cls := "SpeedRowsModel", name := "limit", desc := "(I)I" } : Jvm.MethodName) prog_5_method_10_code (8 : Nat) (Option.some Jvm.ClassFile.FieldType.int)) ∈ lw_all := lw_g (lw_at lw_m1 239 rfl) rfl
theorem q246 : (Jvm.Cond.methodLink "SpeedRowsModel" (53 : Nat) ({ cls := "java/lang/Math", name := "min", desc := "(II)I" } : Jvm.MethodName)) ∈ lw_all := lw_g (lw_at lw_m2 0 rfl) rfl
theorem q247 : (Jvm.Cond.methodLink "SpeedRowsModel" (59 : Nat) ({ cls := "java/lang/Math", name := "max", desc := "(II)I" } : Jvm.MethodName)) ∈ lw_all := lw_g (lw_at lw_m2 1 rfl) rfl
theorem q249 : (Jvm.Cond.instanceMethod ({ cls := "SpeedRowsModel", name := "speed", desc := "(I)I" } : Jvm.MethodName)) ∈ lw_all := lw_g (lw_at lw_m2 3 rfl) rfl
theorem q250 : (Jvm.Cond.selects "SpeedRowsModel" ({ cls := "SpeedRowsModel", name := "speed", desc := "(I)I" } : Jvm.MethodName) ({ cls := "SpeedRowsModel", name := "speed", desc := "(I)I" } : Jvm.MethodName)) ∈ lw_all := lw_g (lw_at lw_m2 4 rfl) rfl
theorem q251 : (Jvm.Cond.code ({ cls := "SpeedRowsModel", name := "speed", desc := "(I)I" } : Jvm.MethodName) prog_5_method_15_code (2 : Nat) (Option.some Jvm.ClassFile.FieldType.int)) ∈ lw_all := lw_g (lw_at lw_m2 5 rfl) rfl
theorem q252 : (Jvm.Cond.methodLink "SpeedRowsModel" (81 : Nat) ({ cls := "SpeedRowsModel", name := "know", desc := "()V" } : Jvm.MethodName)) ∈ lw_all := lw_g (lw_at lw_m2 6 rfl) rfl
theorem q253 : (Jvm.Cond.privateMethod ({ cls := "SpeedRowsModel", name := "know", desc := "()V" } : Jvm.MethodName)) ∈ lw_tbl := lw_at lw_m2 7 rfl
theorem q254 : (Jvm.Cond.instanceMethod ({ cls := "SpeedRowsModel", name := "know", desc := "()V" } : Jvm.MethodName)) ∈ lw_all := lw_g (lw_at lw_m2 8 rfl) rfl
theorem q255 : (Jvm.Cond.code ({ cls := "SpeedRowsModel", name := "know", desc := "()V" } : Jvm.MethodName) prog_5_method_14_code (3 : Nat) (Option.none : Option Jvm.ClassFile.FieldType)) ∈ lw_all := lw_g (lw_at lw_m2 9 rfl) rfl
theorem q256 : (Jvm.Cond.methodLink "SpeedRowsModel" (70 : Nat) ({ cls := "SpeedRowsModel", name := "limit", desc := "(I)I" } : Jvm.MethodName)) ∈ lw_all := lw_g (lw_at lw_m2 10 rfl) rfl
theorem q257 : (Jvm.Cond.methodLink "SpeedRowsModel" (74 : Nat) ({ cls := "SpeedRowsModel", name := "reach", desc := "(II)I" } : Jvm.MethodName)) ∈ lw_all := lw_g (lw_at lw_m2 11 rfl) rfl
theorem q258 : (Jvm.Cond.privateMethod ({ cls := "SpeedRowsModel", name := "reach", desc := "(II)I" } : Jvm.MethodName)) ∈ lw_tbl := lw_at lw_m2 12 rfl
theorem q259 : (Jvm.Cond.instanceMethod ({ cls := "SpeedRowsModel", name := "reach", desc := "(II)I" } : Jvm.MethodName)) ∈ lw_all := lw_g (lw_at lw_m2 13 rfl) rfl
theorem q260 : (Jvm.Cond.code ({ cls := "SpeedRowsModel", name := "reach", desc := "(II)I" } : Jvm.MethodName) prog_5_method_12_code (3 : Nat) (Option.some Jvm.ClassFile.FieldType.int)) ∈ lw_all := lw_g (lw_at lw_m2 14 rfl) rfl
theorem q261 : (Jvm.Cond.constantLong "SpeedRowsModel" (64 : Nat) (2 : Int64)) ∈ lw_all := lw_g (lw_at lw_m2 15 rfl) rfl
theorem q262 : (Jvm.Cond.methodLink "SpeedRowsModel" (66 : Nat) ({ cls := "SpeedRowsModel", name := "root", desc := "(J)J" } : Jvm.MethodName)) ∈ lw_all := lw_g (lw_at lw_m2 16 rfl) rfl
theorem q263 : (Jvm.Cond.static ({ cls := "SpeedRowsModel", name := "root", desc := "(J)J" } : Jvm.MethodName)) ∈ lw_all := lw_g (lw_at lw_m2 17 rfl) rfl
theorem q264 : (Jvm.Cond.code ({ cls := "SpeedRowsModel", name := "root", desc := "(J)J" } : Jvm.MethodName) prog_5_method_11_code (8 : Nat) (Option.some Jvm.ClassFile.FieldType.long)) ∈ lw_all := lw_g (lw_at lw_m2 18 rfl) rfl
theorem q265 : (Jvm.Cond.constantLong "SpeedRowsModel" (62 : Nat) (2000000000 : Int64)) ∈ lw_all := lw_g (lw_at lw_m2 19 rfl) rfl
theorem q266 : (Jvm.Cond.methodLink "SpeedRowsModel" (77 : Nat) ({ cls := "SpeedRowsModel", name := "lowered", desc := "(II)Z" } : Jvm.MethodName)) ∈ lw_all := lw_g (lw_at lw_m2 20 rfl) rfl
theorem q267 : (Jvm.Cond.privateMethod ({ cls := "SpeedRowsModel", name := "lowered", desc := "(II)Z" } : Jvm.MethodName)) ∈ lw_tbl := lw_at lw_m2 21 rfl
theorem q268 : (Jvm.Cond.instanceMethod ({ cls := "SpeedRowsModel", name := "lowered", desc := "(II)Z" } : Jvm.MethodName)) ∈ lw_all := lw_g (lw_at lw_m2 22 rfl) rfl
theorem q269 : (Jvm.Cond.code ({ cls := "SpeedRowsModel", name := "lowered", desc := "(II)Z" } : Jvm.MethodName) prog_5_method_13_code (3 : Nat) (Option.some Jvm.ClassFile.FieldType.boolean)) ∈ lw_all := lw_g (lw_at lw_m2 23 rfl) rfl
theorem q271 : (Jvm.Cond.instanceMethod ({ cls := "SpeedRowsModel", name := "sum", desc := "()J" } : Jvm.MethodName)) ∈ lw_all := lw_g (lw_at lw_m2 25 rfl) rfl
theorem q272 : (Jvm.Cond.selects "SpeedRowsModel" ({ cls := "SpeedRowsModel", name := "sum", desc := "()J" } : Jvm.MethodName) ({ cls := "SpeedRowsModel", name := "sum", desc := "()J" } : Jvm.MethodName)) ∈ lw_all := lw_g (lw_at lw_m2 26 rfl) rfl
theorem q273 : (Jvm.Cond.code ({ cls := "SpeedRowsModel", name := "sum", desc := "()J" } : Jvm.MethodName) prog_5_method_16_code (4 : Nat) (Option.some Jvm.ClassFile.FieldType.long)) ∈ lw_all := lw_g (lw_at lw_m2 27 rfl) rfl
theorem q275 : (Jvm.Cond.instanceMethod ({ cls := "SpeedRowsModel", name := "below", desc := "()I" } : Jvm.MethodName)) ∈ lw_all := lw_g (lw_at lw_m2 29 rfl) rfl
theorem q276 : (Jvm.Cond.selects "SpeedRowsModel" ({ cls := "SpeedRowsModel", name := "below", desc := "()I" } : Jvm.MethodName) ({ cls := "SpeedRowsModel", name := "below", desc := "()I" } : Jvm.MethodName)) ∈ lw_all := lw_g (lw_at lw_m2 30 rfl) rfl
theorem q277 : (Jvm.Cond.code ({ cls := "SpeedRowsModel", name := "below", desc := "()I" } : Jvm.MethodName) prog_5_method_17_code (3 : Nat) (Option.some Jvm.ClassFile.FieldType.int)) ∈ lw_all := lw_g (lw_at lw_m2 31 rfl) rfl
theorem in_X2 : ∀ w ∈ wsX20, w ∈ lw_all := lw_in wsX20 [192, 194, 196, 198, 200, 202, 204, 206, 208, 210] (by decide +kernel) (by decide +kernel)
end
section
/-! the law's own entry -/
set_option maxRecDepth 100000
abbrev cL_law : ByteArray := code
theorem dL_law_0 : decode cL_law 0 = .ok (.new 7, 3) := by decide +kernel
theorem dL_law_3 : decode cL_law 3 = .ok (.dup, 1) := by decide +kernel
theorem dL_law_4 : decode cL_law 4 = .ok (.invokespecial 9, 3) := by decide +kernel
theorem dL_law_7 : decode cL_law 7 = .ok (.astore_n 1, 1) := by decide +kernel
theorem dL_law_8 : decode cL_law 8 = .ok (.new 10, 3) := by decide +kernel
theorem dL_law_11 : decode cL_law 11 = .ok (.dup, 1) := by decide +kernel
theorem dL_law_12 : decode cL_law 12 = .ok (.invokespecial 12, 3) := by decide +kernel
theorem dL_law_15 : decode cL_law 15 = .ok (.astore_n 2, 1) := by decide +kernel
theorem dL_law_16 : decode cL_law 16 = .ok (.iconst 0, 1) := by decide +kernel
theorem dL_law_17 : decode cL_law 17 = .ok (.istore_n 3, 1) := by decide +kernel
theorem dL_law_18 : decode cL_law 18 = .ok (.iload_n 3, 1) := by decide +kernel
theorem dL_law_19 : decode cL_law 19 = .ok (.aload_n 0, 1) := by decide +kernel
theorem dL_law_20 : decode cL_law 20 = .ok (.arraylength, 1) := by decide +kernel
theorem dL_law_21 : decode cL_law 21 = .ok (.iconst 4, 1) := by decide +kernel
theorem dL_law_22 : decode cL_law 22 = .ok (.isub, 1) := by decide +kernel
theorem dL_law_23 : decode cL_law 23 = .ok (.if_icmp .gt 305, 3) := by decide +kernel
theorem dL_law_26 : decode cL_law 26 = .ok (.aload_n 0, 1) := by decide +kernel
theorem dL_law_27 : decode cL_law 27 = .ok (.iload_n 3, 1) := by decide +kernel
theorem dL_law_28 : decode cL_law 28 = .ok (.iaload, 1) := by decide +kernel
theorem dL_law_29 : decode cL_law 29 = .ok (.bipush 15, 2) := by decide +kernel
theorem dL_law_31 : decode cL_law 31 = .ok (.iand, 1) := by decide +kernel
theorem dL_law_32 : decode cL_law 32 = .ok (.tableswitch 290 0 8 #[52, 95, 138, 171, 194, 217, 240, 263, 277], 52) := by decide +kernel
theorem dL_law_84 : decode cL_law 84 = .ok (.aload_n 1, 1) := by decide +kernel
theorem dL_law_85 : decode cL_law 85 = .ok (.aload_n 0, 1) := by decide +kernel
theorem dL_law_86 : decode cL_law 86 = .ok (.iload_n 3, 1) := by decide +kernel
theorem dL_law_87 : decode cL_law 87 = .ok (.iconst 1, 1) := by decide +kernel
theorem dL_law_88 : decode cL_law 88 = .ok (.iadd, 1) := by decide +kernel
theorem dL_law_89 : decode cL_law 89 = .ok (.iaload, 1) := by decide +kernel
theorem dL_law_90 : decode cL_law 90 = .ok (.aload_n 0, 1) := by decide +kernel
theorem dL_law_91 : decode cL_law 91 = .ok (.iload_n 3, 1) := by decide +kernel
theorem dL_law_92 : decode cL_law 92 = .ok (.iconst 2, 1) := by decide +kernel
theorem dL_law_93 : decode cL_law 93 = .ok (.iadd, 1) := by decide +kernel
theorem dL_law_94 : decode cL_law 94 = .ok (.iaload, 1) := by decide +kernel
theorem dL_law_95 : decode cL_law 95 = .ok (.aload_n 0, 1) := by decide +kernel
theorem dL_law_96 : decode cL_law 96 = .ok (.iload_n 3, 1) := by decide +kernel
theorem dL_law_97 : decode cL_law 97 = .ok (.iconst 3, 1) := by decide +kernel
theorem dL_law_98 : decode cL_law 98 = .ok (.iadd, 1) := by decide +kernel
theorem dL_law_99 : decode cL_law 99 = .ok (.iaload, 1) := by decide +kernel
theorem dL_law_100 : decode cL_law 100 = .ok (.invokevirtual 13, 3) := by decide +kernel
theorem dL_law_103 : decode cL_law 103 = .ok (.aload_n 2, 1) := by decide +kernel
theorem dL_law_104 : decode cL_law 104 = .ok (.aload_n 0, 1) := by decide +kernel
theorem dL_law_105 : decode cL_law 105 = .ok (.iload_n 3, 1) := by decide +kernel
theorem dL_law_106 : decode cL_law 106 = .ok (.iconst 1, 1) := by decide +kernel
theorem dL_law_107 : decode cL_law 107 = .ok (.iadd, 1) := by decide +kernel
theorem dL_law_108 : decode cL_law 108 = .ok (.iaload, 1) := by decide +kernel
theorem dL_law_109 : decode cL_law 109 = .ok (.aload_n 0, 1) := by decide +kernel
theorem dL_law_110 : decode cL_law 110 = .ok (.iload_n 3, 1) := by decide +kernel
theorem dL_law_111 : decode cL_law 111 = .ok (.iconst 2, 1) := by decide +kernel
theorem dL_law_112 : decode cL_law 112 = .ok (.iadd, 1) := by decide +kernel
theorem dL_law_113 : decode cL_law 113 = .ok (.iaload, 1) := by decide +kernel
theorem dL_law_114 : decode cL_law 114 = .ok (.aload_n 0, 1) := by decide +kernel
theorem dL_law_115 : decode cL_law 115 = .ok (.iload_n 3, 1) := by decide +kernel
theorem dL_law_116 : decode cL_law 116 = .ok (.iconst 3, 1) := by decide +kernel
theorem dL_law_117 : decode cL_law 117 = .ok (.iadd, 1) := by decide +kernel
theorem dL_law_118 : decode cL_law 118 = .ok (.iaload, 1) := by decide +kernel
theorem dL_law_119 : decode cL_law 119 = .ok (.invokevirtual 17, 3) := by decide +kernel
theorem dL_law_122 : decode cL_law 122 = .ok (.if_icmp .eq 200, 3) := by decide +kernel
theorem dL_law_125 : decode cL_law 125 = .ok (.iconst 0, 1) := by decide +kernel
theorem dL_law_126 : decode cL_law 126 = .ok (.ireturn, 1) := by decide +kernel
theorem dL_law_127 : decode cL_law 127 = .ok (.aload_n 1, 1) := by decide +kernel
theorem dL_law_128 : decode cL_law 128 = .ok (.aload_n 0, 1) := by decide +kernel
theorem dL_law_129 : decode cL_law 129 = .ok (.iload_n 3, 1) := by decide +kernel
theorem dL_law_130 : decode cL_law 130 = .ok (.iconst 1, 1) := by decide +kernel
theorem dL_law_131 : decode cL_law 131 = .ok (.iadd, 1) := by decide +kernel
theorem dL_law_132 : decode cL_law 132 = .ok (.iaload, 1) := by decide +kernel
theorem dL_law_133 : decode cL_law 133 = .ok (.aload_n 0, 1) := by decide +kernel
theorem dL_law_134 : decode cL_law 134 = .ok (.iload_n 3, 1) := by decide +kernel
theorem dL_law_135 : decode cL_law 135 = .ok (.iconst 2, 1) := by decide +kernel
theorem dL_law_136 : decode cL_law 136 = .ok (.iadd, 1) := by decide +kernel
theorem dL_law_137 : decode cL_law 137 = .ok (.iaload, 1) := by decide +kernel
theorem dL_law_138 : decode cL_law 138 = .ok (.aload_n 0, 1) := by decide +kernel
theorem dL_law_139 : decode cL_law 139 = .ok (.iload_n 3, 1) := by decide +kernel
theorem dL_law_140 : decode cL_law 140 = .ok (.iconst 3, 1) := by decide +kernel
theorem dL_law_141 : decode cL_law 141 = .ok (.iadd, 1) := by decide +kernel
theorem dL_law_142 : decode cL_law 142 = .ok (.iaload, 1) := by decide +kernel
theorem dL_law_143 : decode cL_law 143 = .ok (.invokevirtual 18, 3) := by decide +kernel
theorem dL_law_146 : decode cL_law 146 = .ok (.aload_n 2, 1) := by decide +kernel
theorem dL_law_147 : decode cL_law 147 = .ok (.aload_n 0, 1) := by decide +kernel
theorem dL_law_148 : decode cL_law 148 = .ok (.iload_n 3, 1) := by decide +kernel
theorem dL_law_149 : decode cL_law 149 = .ok (.iconst 1, 1) := by decide +kernel
theorem dL_law_150 : decode cL_law 150 = .ok (.iadd, 1) := by decide +kernel
theorem dL_law_151 : decode cL_law 151 = .ok (.iaload, 1) := by decide +kernel
theorem dL_law_152 : decode cL_law 152 = .ok (.aload_n 0, 1) := by decide +kernel
theorem dL_law_153 : decode cL_law 153 = .ok (.iload_n 3, 1) := by decide +kernel
theorem dL_law_154 : decode cL_law 154 = .ok (.iconst 2, 1) := by decide +kernel
theorem dL_law_155 : decode cL_law 155 = .ok (.iadd, 1) := by decide +kernel
theorem dL_law_156 : decode cL_law 156 = .ok (.iaload, 1) := by decide +kernel
theorem dL_law_157 : decode cL_law 157 = .ok (.aload_n 0, 1) := by decide +kernel
theorem dL_law_158 : decode cL_law 158 = .ok (.iload_n 3, 1) := by decide +kernel
theorem dL_law_159 : decode cL_law 159 = .ok (.iconst 3, 1) := by decide +kernel
theorem dL_law_160 : decode cL_law 160 = .ok (.iadd, 1) := by decide +kernel
theorem dL_law_161 : decode cL_law 161 = .ok (.iaload, 1) := by decide +kernel
theorem dL_law_162 : decode cL_law 162 = .ok (.invokevirtual 21, 3) := by decide +kernel
theorem dL_law_165 : decode cL_law 165 = .ok (.if_icmp .eq 157, 3) := by decide +kernel
theorem dL_law_168 : decode cL_law 168 = .ok (.iconst 0, 1) := by decide +kernel
theorem dL_law_169 : decode cL_law 169 = .ok (.ireturn, 1) := by decide +kernel
theorem dL_law_170 : decode cL_law 170 = .ok (.aload_n 1, 1) := by decide +kernel
theorem dL_law_171 : decode cL_law 171 = .ok (.aload_n 0, 1) := by decide +kernel
theorem dL_law_172 : decode cL_law 172 = .ok (.iload_n 3, 1) := by decide +kernel
theorem dL_law_173 : decode cL_law 173 = .ok (.iconst 1, 1) := by decide +kernel
theorem dL_law_174 : decode cL_law 174 = .ok (.iadd, 1) := by decide +kernel
theorem dL_law_175 : decode cL_law 175 = .ok (.iaload, 1) := by decide +kernel
theorem dL_law_176 : decode cL_law 176 = .ok (.aload_n 0, 1) := by decide +kernel
theorem dL_law_177 : decode cL_law 177 = .ok (.iload_n 3, 1) := by decide +kernel
theorem dL_law_178 : decode cL_law 178 = .ok (.iconst 2, 1) := by decide +kernel
theorem dL_law_179 : decode cL_law 179 = .ok (.iadd, 1) := by decide +kernel
theorem dL_law_180 : decode cL_law 180 = .ok (.iaload, 1) := by decide +kernel
theorem dL_law_181 : decode cL_law 181 = .ok (.invokevirtual 22, 3) := by decide +kernel
theorem dL_law_184 : decode cL_law 184 = .ok (.aload_n 2, 1) := by decide +kernel
theorem dL_law_185 : decode cL_law 185 = .ok (.aload_n 0, 1) := by decide +kernel
theorem dL_law_186 : decode cL_law 186 = .ok (.iload_n 3, 1) := by decide +kernel
theorem dL_law_187 : decode cL_law 187 = .ok (.iconst 1, 1) := by decide +kernel
theorem dL_law_188 : decode cL_law 188 = .ok (.iadd, 1) := by decide +kernel
theorem dL_law_189 : decode cL_law 189 = .ok (.iaload, 1) := by decide +kernel
theorem dL_law_190 : decode cL_law 190 = .ok (.aload_n 0, 1) := by decide +kernel
theorem dL_law_191 : decode cL_law 191 = .ok (.iload_n 3, 1) := by decide +kernel
theorem dL_law_192 : decode cL_law 192 = .ok (.iconst 2, 1) := by decide +kernel
theorem dL_law_193 : decode cL_law 193 = .ok (.iadd, 1) := by decide +kernel
theorem dL_law_194 : decode cL_law 194 = .ok (.iaload, 1) := by decide +kernel
theorem dL_law_195 : decode cL_law 195 = .ok (.invokevirtual 26, 3) := by decide +kernel
theorem dL_law_198 : decode cL_law 198 = .ok (.if_icmp .eq 124, 3) := by decide +kernel
theorem dL_law_201 : decode cL_law 201 = .ok (.iconst 0, 1) := by decide +kernel
theorem dL_law_202 : decode cL_law 202 = .ok (.ireturn, 1) := by decide +kernel
theorem dL_law_203 : decode cL_law 203 = .ok (.aload_n 1, 1) := by decide +kernel
theorem dL_law_204 : decode cL_law 204 = .ok (.aload_n 0, 1) := by decide +kernel
theorem dL_law_205 : decode cL_law 205 = .ok (.iload_n 3, 1) := by decide +kernel
theorem dL_law_206 : decode cL_law 206 = .ok (.iconst 1, 1) := by decide +kernel
theorem dL_law_207 : decode cL_law 207 = .ok (.iadd, 1) := by decide +kernel
theorem dL_law_208 : decode cL_law 208 = .ok (.iaload, 1) := by decide +kernel
theorem dL_law_209 : decode cL_law 209 = .ok (.invokevirtual 27, 3) := by decide +kernel
theorem dL_law_212 : decode cL_law 212 = .ok (.aload_n 2, 1) := by decide +kernel
theorem dL_law_213 : decode cL_law 213 = .ok (.aload_n 0, 1) := by decide +kernel
theorem dL_law_214 : decode cL_law 214 = .ok (.iload_n 3, 1) := by decide +kernel
theorem dL_law_215 : decode cL_law 215 = .ok (.iconst 1, 1) := by decide +kernel
theorem dL_law_216 : decode cL_law 216 = .ok (.iadd, 1) := by decide +kernel
theorem dL_law_217 : decode cL_law 217 = .ok (.iaload, 1) := by decide +kernel
theorem dL_law_218 : decode cL_law 218 = .ok (.invokevirtual 31, 3) := by decide +kernel
theorem dL_law_221 : decode cL_law 221 = .ok (.if_icmp .eq 101, 3) := by decide +kernel
theorem dL_law_224 : decode cL_law 224 = .ok (.iconst 0, 1) := by decide +kernel
theorem dL_law_225 : decode cL_law 225 = .ok (.ireturn, 1) := by decide +kernel
theorem dL_law_226 : decode cL_law 226 = .ok (.aload_n 1, 1) := by decide +kernel
theorem dL_law_227 : decode cL_law 227 = .ok (.aload_n 0, 1) := by decide +kernel
theorem dL_law_228 : decode cL_law 228 = .ok (.iload_n 3, 1) := by decide +kernel
theorem dL_law_229 : decode cL_law 229 = .ok (.iconst 1, 1) := by decide +kernel
theorem dL_law_230 : decode cL_law 230 = .ok (.iadd, 1) := by decide +kernel
theorem dL_law_231 : decode cL_law 231 = .ok (.iaload, 1) := by decide +kernel
theorem dL_law_232 : decode cL_law 232 = .ok (.invokevirtual 32, 3) := by decide +kernel
theorem dL_law_235 : decode cL_law 235 = .ok (.aload_n 2, 1) := by decide +kernel
theorem dL_law_236 : decode cL_law 236 = .ok (.aload_n 0, 1) := by decide +kernel
theorem dL_law_237 : decode cL_law 237 = .ok (.iload_n 3, 1) := by decide +kernel
theorem dL_law_238 : decode cL_law 238 = .ok (.iconst 1, 1) := by decide +kernel
theorem dL_law_239 : decode cL_law 239 = .ok (.iadd, 1) := by decide +kernel
theorem dL_law_240 : decode cL_law 240 = .ok (.iaload, 1) := by decide +kernel
theorem dL_law_241 : decode cL_law 241 = .ok (.invokevirtual 36, 3) := by decide +kernel
theorem dL_law_244 : decode cL_law 244 = .ok (.if_icmp .eq 78, 3) := by decide +kernel
theorem dL_law_247 : decode cL_law 247 = .ok (.iconst 0, 1) := by decide +kernel
theorem dL_law_248 : decode cL_law 248 = .ok (.ireturn, 1) := by decide +kernel
theorem dL_law_249 : decode cL_law 249 = .ok (.aload_n 1, 1) := by decide +kernel
theorem dL_law_250 : decode cL_law 250 = .ok (.aload_n 0, 1) := by decide +kernel
theorem dL_law_251 : decode cL_law 251 = .ok (.iload_n 3, 1) := by decide +kernel
theorem dL_law_252 : decode cL_law 252 = .ok (.iconst 1, 1) := by decide +kernel
theorem dL_law_253 : decode cL_law 253 = .ok (.iadd, 1) := by decide +kernel
theorem dL_law_254 : decode cL_law 254 = .ok (.iaload, 1) := by decide +kernel
theorem dL_law_255 : decode cL_law 255 = .ok (.invokevirtual 37, 3) := by decide +kernel
theorem dL_law_258 : decode cL_law 258 = .ok (.aload_n 2, 1) := by decide +kernel
theorem dL_law_259 : decode cL_law 259 = .ok (.aload_n 0, 1) := by decide +kernel
theorem dL_law_260 : decode cL_law 260 = .ok (.iload_n 3, 1) := by decide +kernel
theorem dL_law_261 : decode cL_law 261 = .ok (.iconst 1, 1) := by decide +kernel
theorem dL_law_262 : decode cL_law 262 = .ok (.iadd, 1) := by decide +kernel
theorem dL_law_263 : decode cL_law 263 = .ok (.iaload, 1) := by decide +kernel
theorem dL_law_264 : decode cL_law 264 = .ok (.invokevirtual 40, 3) := by decide +kernel
theorem dL_law_267 : decode cL_law 267 = .ok (.if_icmp .eq 55, 3) := by decide +kernel
theorem dL_law_270 : decode cL_law 270 = .ok (.iconst 0, 1) := by decide +kernel
theorem dL_law_271 : decode cL_law 271 = .ok (.ireturn, 1) := by decide +kernel
theorem dL_law_272 : decode cL_law 272 = .ok (.aload_n 1, 1) := by decide +kernel
theorem dL_law_273 : decode cL_law 273 = .ok (.aload_n 0, 1) := by decide +kernel
theorem dL_law_274 : decode cL_law 274 = .ok (.iload_n 3, 1) := by decide +kernel
theorem dL_law_275 : decode cL_law 275 = .ok (.iconst 1, 1) := by decide +kernel
theorem dL_law_276 : decode cL_law 276 = .ok (.iadd, 1) := by decide +kernel
theorem dL_law_277 : decode cL_law 277 = .ok (.iaload, 1) := by decide +kernel
theorem dL_law_278 : decode cL_law 278 = .ok (.invokevirtual 41, 3) := by decide +kernel
theorem dL_law_281 : decode cL_law 281 = .ok (.aload_n 2, 1) := by decide +kernel
theorem dL_law_282 : decode cL_law 282 = .ok (.aload_n 0, 1) := by decide +kernel
theorem dL_law_283 : decode cL_law 283 = .ok (.iload_n 3, 1) := by decide +kernel
theorem dL_law_284 : decode cL_law 284 = .ok (.iconst 1, 1) := by decide +kernel
theorem dL_law_285 : decode cL_law 285 = .ok (.iadd, 1) := by decide +kernel
theorem dL_law_286 : decode cL_law 286 = .ok (.iaload, 1) := by decide +kernel
theorem dL_law_287 : decode cL_law 287 = .ok (.invokevirtual 44, 3) := by decide +kernel
theorem dL_law_290 : decode cL_law 290 = .ok (.if_icmp .eq 32, 3) := by decide +kernel
theorem dL_law_293 : decode cL_law 293 = .ok (.iconst 0, 1) := by decide +kernel
theorem dL_law_294 : decode cL_law 294 = .ok (.ireturn, 1) := by decide +kernel
theorem dL_law_295 : decode cL_law 295 = .ok (.aload_n 1, 1) := by decide +kernel
theorem dL_law_296 : decode cL_law 296 = .ok (.invokevirtual 45, 3) := by decide +kernel
theorem dL_law_299 : decode cL_law 299 = .ok (.aload_n 2, 1) := by decide +kernel
theorem dL_law_300 : decode cL_law 300 = .ok (.invokevirtual 49, 3) := by decide +kernel
theorem dL_law_303 : decode cL_law 303 = .ok (.lcmp, 1) := by decide +kernel
theorem dL_law_304 : decode cL_law 304 = .ok (.ifCond .eq 18, 3) := by decide +kernel
theorem dL_law_307 : decode cL_law 307 = .ok (.iconst 0, 1) := by decide +kernel
theorem dL_law_308 : decode cL_law 308 = .ok (.ireturn, 1) := by decide +kernel
theorem dL_law_309 : decode cL_law 309 = .ok (.aload_n 1, 1) := by decide +kernel
theorem dL_law_310 : decode cL_law 310 = .ok (.invokevirtual 50, 3) := by decide +kernel
theorem dL_law_313 : decode cL_law 313 = .ok (.aload_n 2, 1) := by decide +kernel
theorem dL_law_314 : decode cL_law 314 = .ok (.invokevirtual 54, 3) := by decide +kernel
theorem dL_law_317 : decode cL_law 317 = .ok (.if_icmp .eq 5, 3) := by decide +kernel
theorem dL_law_320 : decode cL_law 320 = .ok (.iconst 0, 1) := by decide +kernel
theorem dL_law_321 : decode cL_law 321 = .ok (.ireturn, 1) := by decide +kernel
theorem dL_law_322 : decode cL_law 322 = .ok (.iinc 3 4, 3) := by decide +kernel
theorem dL_law_325 : decode cL_law 325 = .ok (.goto (-307), 3) := by decide +kernel
theorem dL_law_328 : decode cL_law 328 = .ok (.iconst 1, 1) := by decide +kernel
theorem dL_law_329 : decode cL_law 329 = .ok (.ireturn, 1) := by decide +kernel
end
section
/-! the plain law: numbers, with no program in sight -/
/-- the greatest whole number whose square is not above n -/
def sr_rt : Nat → Nat
  | 0 => 0
  | n + 1 => if (sr_rt n + 1) * (sr_rt n + 1) ≤ n + 1 then sr_rt n + 1 else sr_rt n
theorem sr_sq (r : Nat) : (r + 1) * (r + 1) = r * r + 2 * r + 1 := by
  simp only [Nat.add_mul, Nat.mul_add]; omega
theorem sr_rt_spec (n : Nat) : sr_rt n * sr_rt n ≤ n ∧ n < (sr_rt n + 1) * (sr_rt n + 1) := by
  induction n with
  | zero => exact ⟨Nat.le_refl _, by decide⟩
  | succ n ih =>
    rw [sr_rt]
    generalize sr_rt n = r at ih
    have e1 := sr_sq r
    have e2 := sr_sq (r + 1)
    split
    · exact ⟨by assumption, by omega⟩
    · exact ⟨by omega, by omega⟩
theorem sr_sq_le {a b : Nat} (h : a ≤ b) : a * a ≤ b * b := Nat.mul_le_mul h h
theorem sr_rt_uniq {n r : Nat} (h1 : r * r ≤ n) (h2 : n < (r + 1) * (r + 1)) : sr_rt n = r := by
  obtain ⟨g1, g2⟩ := sr_rt_spec n
  rcases Nat.lt_trichotomy (sr_rt n) r with h | h | h
  · have := sr_sq_le (show sr_rt n + 1 ≤ r from h)
    omega
  · exact h
  · have := sr_sq_le (show r + 1 ≤ sr_rt n from h)
    omega
theorem sr_rt_ge {n r : Nat} (h : r * r ≤ n) : r ≤ sr_rt n := by
  obtain ⟨g1, g2⟩ := sr_rt_spec n
  rcases Nat.lt_or_ge (sr_rt n) r with q | q
  · have := sr_sq_le (show sr_rt n + 1 ≤ r from q)
    omega
  · exact q
theorem sr_rt_lt {n r : Nat} (h : n < r * r) : sr_rt n < r := by
  obtain ⟨g1, g2⟩ := sr_rt_spec n
  rcases Nat.lt_or_ge (sr_rt n) r with q | q
  · exact q
  · have := sr_sq_le q
    omega
/-! steps: three numbers -/
abbrev sr_Tr : Type := Int32 × Int32 × Int32
/-- a move: ticks, feed, first and last step -/
abbrev sr_Mv : Type := Nat × Nat × sr_Tr × sr_Tr
/-- the state: count, acceleration, first, last, moves -/
abbrev sr_Sg : Type := Nat × Nat × sr_Tr × sr_Tr × (Nat → sr_Mv)
def sr_isOne (x y z : Int32) : Int32 := if ¬ x < -1 ∧ ¬ 1 < x ∧ ¬ y < -1 ∧ ¬ 1 < y ∧ ¬ z < -1 ∧ ¬ 1 < z ∧ ¬ (x = 0 ∧ y = 0 ∧ z = 0) then 1 else 0
theorem sr_isOne_01 (x y z : Int32) : sr_isOne x y z = 0 ∨ sr_isOne x y z = 1 := by
  unfold sr_isOne
  split
  · exact Or.inr rfl
  · exact Or.inl rfl
def sr_okT (t : sr_Tr) : Prop := sr_isOne t.1 t.2.1 t.2.2 = 1
theorem sr_okT_iff (x y z : Int32) : sr_isOne x y z = 1 → ¬ x < -1 ∧ ¬ 1 < x ∧ ¬ y < -1 ∧ ¬ 1 < y ∧ ¬ z < -1 ∧ ¬ 1 < z := by
  intro h
  unfold sr_isOne at h
  split at h
  · rename_i q
    exact ⟨q.1, q.2.1, q.2.2.1, q.2.2.2.1, q.2.2.2.2.1, q.2.2.2.2.2.1⟩
  · exact absurd h (by decide)
def sr_t3 (i : Fin 3) : Int32 := nI i.val - 1
theorem sr_tri {x : Int32} (h1 : ¬ x < -1) (h2 : ¬ 1 < x) : ∃ i : Fin 3, x = sr_t3 i := by
  rw [Int32.lt_iff_toInt_lt] at h1 h2
  have a1 : (-1 : Int32).toInt = -1 := by decide
  have a2 : (1 : Int32).toInt = 1 := by decide
  rw [a1] at h1
  rw [a2] at h2
  have h3 : x.toInt = -1 ∨ x.toInt = 0 ∨ x.toInt = 1 := by omega
  rcases h3 with h | h | h
  · exact ⟨0, Int32.toInt_inj.mp (by rw [h]; decide)⟩
  · exact ⟨1, Int32.toInt_inj.mp (by rw [h]; decide)⟩
  · exact ⟨2, Int32.toInt_inj.mp (by rw [h]; decide)⟩
def sr_dt (u v : sr_Tr) : Int32 := u.1 * v.1 + u.2.1 * v.2.1 + u.2.2 * v.2.2
def sr_dp (u v : sr_Tr) : Int32 := if 0 < sr_dt u v then sr_dt u v else 0
def sr_gr (u v : sr_Tr) : Int32 := if sr_dt u u < sr_dt v v then sr_dt v v else sr_dt u u
def sr_dN (u v : sr_Tr) : Nat := (sr_dp u v).toNatClampNeg
def sr_gN (u v : sr_Tr) : Nat := (sr_gr u v).toNatClampNeg
def sr_good (u v : sr_Tr) : Prop := sr_dp u v = nI (sr_dN u v) ∧ sr_gr u v = nI (sr_gN u v) ∧ sr_dN u v ≤ sr_gN u v ∧ 1 ≤ sr_gN u v ∧ sr_gN u v ≤ 3 ∧ (if sr_dt u v < 0 then 0 else sr_dt u v) = sr_dp u v
set_option maxRecDepth 100000 in
theorem sr_tab : ∀ a b c d e f : Fin 3, sr_isOne (sr_t3 a) (sr_t3 b) (sr_t3 c) = 1 → sr_isOne (sr_t3 d) (sr_t3 e) (sr_t3 f) = 1 → sr_good (sr_t3 a, sr_t3 b, sr_t3 c) (sr_t3 d, sr_t3 e, sr_t3 f) := by
  unfold sr_good
  decide +kernel
theorem sr_ok_good {u v : sr_Tr} (hu : sr_okT u) (hv : sr_okT v) : sr_good u v := by
  obtain ⟨x, y, z⟩ := u
  obtain ⟨x', y', z'⟩ := v
  unfold sr_okT at hu hv
  dsimp only at hu hv
  obtain ⟨a1, a2, a3, a4, a5, a6⟩ := sr_okT_iff _ _ _ hu
  obtain ⟨b1, b2, b3, b4, b5, b6⟩ := sr_okT_iff _ _ _ hv
  obtain ⟨i1, rfl⟩ := sr_tri a1 a2
  obtain ⟨i2, rfl⟩ := sr_tri a3 a4
  obtain ⟨i3, rfl⟩ := sr_tri a5 a6
  obtain ⟨i4, rfl⟩ := sr_tri b1 b2
  obtain ⟨i5, rfl⟩ := sr_tri b3 b4
  obtain ⟨i6, rfl⟩ := sr_tri b5 b6
  exact sr_tab i1 i2 i3 i4 i5 i6 hu hv
/-- a step's numbers fit a byte -/
theorem sr_byte3 : ∀ i : Fin 3, (sr_t3 i).toInt8.toInt32 = sr_t3 i := by decide +kernel
theorem sr_byte {x : Int32} (h1 : ¬ x < -1) (h2 : ¬ 1 < x) : x.toInt8.toInt32 = x := by
  obtain ⟨i, rfl⟩ := sr_tri h1 h2
  exact sr_byte3 i
theorem sr_okT_byte {t : sr_Tr} (h : sr_okT t) : t.1.toInt8.toInt32 = t.1 ∧ t.2.1.toInt8.toInt32 = t.2.1 ∧ t.2.2.toInt8.toInt32 = t.2.2 := by
  obtain ⟨a1, a2, a3, a4, a5, a6⟩ := sr_okT_iff _ _ _ h
  exact ⟨sr_byte a1 a2, sr_byte a3 a4, sr_byte a5 a6⟩
def sr_okM (a : sr_Mv) : Prop := 1 ≤ a.1 ∧ a.1 ≤ 100000 ∧ 1 ≤ a.2.1 ∧ a.2.1 ≤ 99999 ∧ sr_okT a.2.2.1 ∧ sr_okT a.2.2.2
def sr_OK (g : sr_Sg) : Prop := g.1 ≤ 2000 ∧ 1 ≤ g.2.1 ∧ g.2.1 ≤ 10000 ∧ sr_okT g.2.2.1 ∧ sr_okT g.2.2.2.1 ∧ ∀ i, i < g.1 → sr_okM (g.2.2.2.2 i)
/-- the corner between two moves -/
def sr_cor (a b : sr_Mv) : Nat := min a.2.1 b.2.1 * sr_dN a.2.2.2 b.2.2.1 / sr_gN a.2.2.2 b.2.2.1
theorem sr_cor_le {a b : sr_Mv} (ha : sr_okM a) (hb : sr_okM b) : sr_cor a b ≤ 99999 := by
  obtain ⟨-, -, h1, h2, -, hl⟩ := ha
  obtain ⟨-, -, -, -, hf, -⟩ := hb
  obtain ⟨-, -, g1, g2, -, -⟩ := sr_ok_good hl hf
  unfold sr_cor
  generalize sr_dN a.2.2.2 b.2.2.1 = d at g1 ⊢
  generalize sr_gN a.2.2.2 b.2.2.1 = g at g1 g2 ⊢
  have e : min a.2.1 b.2.1 ≤ 99999 := by omega
  generalize min a.2.1 b.2.1 = k at e ⊢
  refine Nat.le_trans (Nat.div_le_div_right (Nat.mul_le_mul_left k g1)) ?_
  rw [Nat.mul_div_cancel _ (by omega)]
  exact e
theorem sr_min {a b : Nat} (ha : a < 2 ^ 31) (hb : b < 2 ^ 31) : (if nI b < nI a then nI b else nI a) = nI (min a b) := by
  by_cases h : b < a
  · rw [if_pos (nI_lt h ha), Nat.min_eq_right (by omega)]
  · rw [if_neg (nI_nlt (by omega) hb), Nat.min_eq_left (by omega)]
/-- the corner, as the class works it out -/
theorem sr_cor_x {a b : sr_Mv} (ha : sr_okM a) (hb : sr_okM b) : (if nI b.2.1 < nI a.2.1 then nI b.2.1 else nI a.2.1) * sr_dp a.2.2.2 b.2.2.1 / sr_gr a.2.2.2 b.2.2.1 = nI (sr_cor a b) := by
  obtain ⟨-, -, h1, h2, -, hl⟩ := ha
  obtain ⟨-, -, h3, h4, hf, -⟩ := hb
  obtain ⟨e1, e2, g1, g2, g3, -⟩ := sr_ok_good hl hf
  rw [sr_min (by omega) (by omega), e1, e2, pk_mul]
  unfold sr_cor
  have e : min a.2.1 b.2.1 ≤ 99999 := by omega
  generalize min a.2.1 b.2.1 = k at e ⊢
  generalize sr_dN a.2.2.2 b.2.2.1 = d at g1 ⊢
  generalize sr_gN a.2.2.2 b.2.2.1 = g at g1 g2 g3 ⊢
  refine pk_div ?_ (by omega) (by omega)
  have : k * d ≤ 99999 * 3 := Nat.mul_le_mul e (by omega)
  omega
theorem sr_gr_ne {u v : sr_Tr} (hu : sr_okT u) (hv : sr_okT v) : ¬ sr_gr u v = 0 := by
  obtain ⟨-, e2, -, g2, g3, -⟩ := sr_ok_good hu hv
  rw [e2]
  exact nI_ne0 (by omega) (by omega)
/-- the greatest speed behind n ticks -/
def sr_re (acc v n : Nat) : Nat := sr_rt (v * v + 2 * acc * n)
theorem sr_re_ge (acc v n : Nat) : v ≤ sr_re acc v n := sr_rt_ge (Nat.le_add_right _ _)
theorem sr_re_arg {acc v n : Nat} (ha : acc ≤ 10000) (hv : v ≤ 99999) (hn : n ≤ 100000) : v * v + 2 * acc * n ≤ 12000000000 := by
  have h1 : v * v ≤ 99999 * 99999 := Nat.mul_le_mul hv hv
  have h2 : 2 * acc * n ≤ 20000 * 100000 := Nat.mul_le_mul (by omega) hn
  omega
theorem sr_re_lt {acc v n : Nat} (ha : acc ≤ 10000) (hv : v ≤ 99999) (hn : n ≤ 100000) : sr_re acc v n < 1000000 := by
  refine sr_rt_lt ?_
  have := sr_re_arg ha hv hn
  omega
/-- the greatest speed at the corner k from the beginning -/
def sr_ris (acc : Nat) (mv : Nat → sr_Mv) : Nat → Nat
  | 0 => 0
  | k + 1 => min (sr_cor (mv k) (mv (k + 1))) (sr_re acc (sr_ris acc mv k) (mv k).1)
theorem sr_ris_le {acc : Nat} {mv : Nat → sr_Mv} {n : Nat} (h : ∀ i, i < n → sr_okM (mv i)) : ∀ k, k < n → sr_ris acc mv k ≤ 99999 := by
  intro k hk
  cases k with
  | zero => exact Nat.zero_le _
  | succ k =>
    rw [sr_ris]
    exact Nat.le_trans (Nat.min_le_left _ _) (sr_cor_le (h k (by omega)) (h (k + 1) hk))
theorem sr_ris_cong {acc : Nat} {mv mv' : Nat → sr_Mv} {n : Nat} (h : ∀ i, i < n → mv' i = mv i) : ∀ k, k < n → sr_ris acc mv' k = sr_ris acc mv k := by
  intro k
  induction k with
  | zero => intro _; rfl
  | succ k ih =>
    intro hk
    rw [sr_ris, sr_ris, h k (by omega), h (k + 1) hk, ih (by omega)]
/-- the speeds, by the distance from the end -/
def sr_sd (acc : Nat) (mv : Nat → sr_Mv) (cnt : Nat) : Nat → Nat
  | 0 => 0
  | d + 1 => if cnt - (d + 1) = 0 then 0 else min (sr_ris acc mv (cnt - (d + 1))) (sr_re acc (sr_sd acc mv cnt d) (mv (cnt - (d + 1))).1)
def sr_spd (g : sr_Sg) (k : Nat) : Nat := sr_sd g.2.1 g.2.2.2.2 g.1 (g.1 - k)
theorem sr_spd_end (g : sr_Sg) : sr_spd g g.1 = 0 := by
  unfold sr_spd
  rw [Nat.sub_self]
  rfl
theorem sr_spd_0 (g : sr_Sg) : sr_spd g 0 = 0 := by
  unfold sr_spd
  rw [Nat.sub_zero]
  cases h : g.1 with
  | zero => rfl
  | succ n => rw [sr_sd, if_pos (Nat.sub_self _)]
theorem sr_spd_at (g : sr_Sg) {k : Nat} (h0 : 0 < k) (h : k < g.1) : sr_spd g k = min (sr_ris g.2.1 g.2.2.2.2 k) (sr_re g.2.1 (sr_spd g (k + 1)) (g.2.2.2.2 k).1) := by
  unfold sr_spd
  rw [show g.1 - k = (g.1 - (k + 1)) + 1 by omega, sr_sd, if_neg (by omega), show g.1 - (g.1 - (k + 1) + 1) = k by omega]
theorem sr_spd_le {g : sr_Sg} (h : sr_OK g) {k : Nat} (hk : k ≤ g.1) : sr_spd g k ≤ 99999 := by
  rcases Nat.eq_zero_or_pos k with q | q
  · rw [q, sr_spd_0]; exact Nat.zero_le _
  · rcases Nat.lt_or_ge k g.1 with q2 | q2
    · rw [sr_spd_at g q q2]
      exact Nat.le_trans (Nat.min_le_left _ _) (sr_ris_le h.2.2.2.2.2 k q2)
    · rw [show k = g.1 by omega, sr_spd_end]; exact Nat.zero_le _
/-- the limit at a corner -/
def sr_lim (g : sr_Sg) (k : Nat) : Nat := if k = 0 ∨ k = g.1 then 0 else sr_cor (g.2.2.2.2 (k - 1)) (g.2.2.2.2 k)
theorem sr_lim_le {g : sr_Sg} (h : sr_OK g) {k : Nat} (hk : k ≤ g.1) : sr_lim g k ≤ 99999 := by
  unfold sr_lim
  split
  · exact Nat.zero_le _
  · exact sr_cor_le (h.2.2.2.2.2 _ (by omega)) (h.2.2.2.2.2 _ (by omega))
/-! the passes of the reference: forward, and back -/
def sr_fw (acc : Nat) (mv : Nat → sr_Mv) (a : Nat → Nat) : Nat → Nat
  | 0 => a 0
  | k + 1 => min (a (k + 1)) (sr_re acc (sr_fw acc mv a k) (mv k).1)
def sr_bd (acc : Nat) (mv : Nat → sr_Mv) (cnt : Nat) (a : Nat → Nat) : Nat → Nat
  | 0 => a cnt
  | d + 1 => min (a (cnt - (d + 1))) (sr_re acc (sr_bd acc mv cnt a d) (mv (cnt - (d + 1))).1)
def sr_bw (acc : Nat) (mv : Nat → sr_Mv) (cnt : Nat) (a : Nat → Nat) (k : Nat) : Nat := sr_bd acc mv cnt a (cnt - k)
theorem sr_bw_end (acc : Nat) (mv : Nat → sr_Mv) (cnt : Nat) (a : Nat → Nat) : sr_bw acc mv cnt a cnt = a cnt := by
  unfold sr_bw
  rw [Nat.sub_self]
  rfl
theorem sr_bw_at (acc : Nat) (mv : Nat → sr_Mv) (cnt : Nat) (a : Nat → Nat) {k : Nat} (h : k < cnt) : sr_bw acc mv cnt a k = min (a k) (sr_re acc (sr_bw acc mv cnt a (k + 1)) (mv k).1) := by
  unfold sr_bw
  rw [show cnt - k = (cnt - (k + 1)) + 1 by omega, sr_bd, show cnt - (cnt - (k + 1) + 1) = k by omega]
theorem sr_fw_le (acc : Nat) (mv : Nat → sr_Mv) (a : Nat → Nat) (k : Nat) : sr_fw acc mv a k ≤ a k := by
  cases k with
  | zero => exact Nat.le_refl _
  | succ k => rw [sr_fw]; exact Nat.min_le_left _ _
theorem sr_bw_le (acc : Nat) (mv : Nat → sr_Mv) (cnt : Nat) (a : Nat → Nat) {k : Nat} (h : k ≤ cnt) : sr_bw acc mv cnt a k ≤ a k := by
  rcases Nat.lt_or_ge k cnt with q | q
  · rw [sr_bw_at _ _ _ _ q]; exact Nat.min_le_left _ _
  · rw [show k = cnt by omega, sr_bw_end]; exact Nat.le_refl _
theorem sr_fw_cong {acc : Nat} {mv : Nat → sr_Mv} {a b : Nat → Nat} {n : Nat} (h : ∀ k, k ≤ n → a k = b k) : ∀ k, k ≤ n → sr_fw acc mv a k = sr_fw acc mv b k := by
  intro k
  induction k with
  | zero => intro _; exact h 0 (by omega)
  | succ k ih => intro hk; rw [sr_fw, sr_fw, h (k + 1) hk, ih (by omega)]
theorem sr_bw_cong {acc : Nat} {mv : Nat → sr_Mv} {cnt : Nat} {a b : Nat → Nat} (h : ∀ k, k ≤ cnt → a k = b k) : ∀ d, d ≤ cnt → sr_bw acc mv cnt a (cnt - d) = sr_bw acc mv cnt b (cnt - d) := by
  intro d
  induction d with
  | zero => intro _; rw [Nat.sub_zero, sr_bw_end, sr_bw_end]; exact h cnt (by omega)
  | succ d ih =>
    intro hd
    rw [sr_bw_at _ _ _ a (show cnt - (d + 1) < cnt by omega), sr_bw_at _ _ _ b (show cnt - (d + 1) < cnt by omega), h _ (by omega), show cnt - (d + 1) + 1 = cnt - d by omega, ih (by omega)]
/-- the first forward pass gives what the class has risen to -/
theorem sr_fw_lim (g : sr_Sg) : ∀ k, k ≤ g.1 → sr_fw g.2.1 g.2.2.2.2 (sr_lim g) k = if k = g.1 then 0 else sr_ris g.2.1 g.2.2.2.2 k := by
  intro k
  induction k with
  | zero =>
    intro _
    show sr_lim g 0 = _
    unfold sr_lim
    rw [if_pos (Or.inl rfl)]
    split <;> rfl
  | succ k ih =>
    intro hk
    rw [sr_fw]
    by_cases h : k + 1 = g.1
    · rw [if_pos h]
      unfold sr_lim
      rw [if_pos (Or.inr h)]
      exact Nat.zero_min _
    · rw [if_neg h, ih (by omega), if_neg (by omega), sr_ris]
      unfold sr_lim
      rw [if_neg (by omega)]
      rfl
/-- and the first pass back the speeds -/
theorem sr_bw_lim (g : sr_Sg) : ∀ d, d ≤ g.1 → sr_bw g.2.1 g.2.2.2.2 g.1 (sr_fw g.2.1 g.2.2.2.2 (sr_lim g)) (g.1 - d) = sr_spd g (g.1 - d) := by
  intro d
  induction d with
  | zero => intro _; rw [Nat.sub_zero, sr_bw_end, sr_fw_lim g _ (Nat.le_refl _), if_pos rfl, sr_spd_end]
  | succ d ih =>
    intro hd
    rw [sr_bw_at _ _ _ _ (show g.1 - (d + 1) < g.1 by omega), sr_fw_lim g _ (by omega), if_neg (by omega), show g.1 - (d + 1) + 1 = g.1 - d by omega, ih (by omega)]
    rcases Nat.eq_zero_or_pos (g.1 - (d + 1)) with q | q
    · rw [q, sr_spd_0, sr_ris]; exact Nat.zero_min _
    · rw [sr_spd_at g q (by omega), show g.1 - (d + 1) + 1 = g.1 - d by omega]
theorem sr_two (g : sr_Sg) {k : Nat} (h : k ≤ g.1) : sr_bw g.2.1 g.2.2.2.2 g.1 (sr_fw g.2.1 g.2.2.2.2 (sr_lim g)) k = sr_spd g k := by
  have := sr_bw_lim g (g.1 - k) (by omega)
  rwa [show g.1 - (g.1 - k) = k by omega] at this
/-- the speeds are stable -/
theorem sr_st_b (g : sr_Sg) {k : Nat} (h : k < g.1) : sr_spd g k ≤ sr_re g.2.1 (sr_spd g (k + 1)) (g.2.2.2.2 k).1 := by
  rcases Nat.eq_zero_or_pos k with q | q
  · rw [q, sr_spd_0]; exact Nat.zero_le _
  · rw [sr_spd_at g q h]; exact Nat.min_le_right _ _
theorem sr_spd_ris (g : sr_Sg) {k : Nat} (h : k < g.1) : sr_spd g k ≤ sr_ris g.2.1 g.2.2.2.2 k := by
  rcases Nat.eq_zero_or_pos k with q | q
  · rw [q, sr_spd_0]; exact Nat.zero_le _
  · rw [sr_spd_at g q h]; exact Nat.min_le_left _ _
theorem sr_st_f (g : sr_Sg) {k : Nat} (h : k < g.1) : sr_spd g (k + 1) ≤ sr_re g.2.1 (sr_spd g k) (g.2.2.2.2 k).1 := by
  by_cases he : k + 1 = g.1
  · rw [he, sr_spd_end]; exact Nat.zero_le _
  · have h1 : k + 1 < g.1 := by omega
    have h2 := sr_spd_ris g h1
    rcases Nat.eq_zero_or_pos k with q | q
    · subst q
      rw [sr_spd_0]
      rw [sr_ris] at h2
      exact Nat.le_trans h2 (Nat.min_le_right _ _)
    · rw [sr_ris] at h2
      have h3 := sr_spd_at g q h
      rcases Nat.le_total (sr_ris g.2.1 g.2.2.2.2 k) (sr_re g.2.1 (sr_spd g (k + 1)) (g.2.2.2.2 k).1) with q2 | q2
      · rw [Nat.min_eq_left q2] at h3
        rw [h3]
        exact Nat.le_trans h2 (Nat.min_le_right _ _)
      · rw [Nat.min_eq_right q2] at h3
        have h4 : sr_spd g (k + 1) ≤ sr_spd g k := by rw [h3]; exact sr_re_ge _ _ _
        exact Nat.le_trans h4 (sr_re_ge _ _ _)
theorem sr_fw_spd (g : sr_Sg) : ∀ k, k ≤ g.1 → sr_fw g.2.1 g.2.2.2.2 (sr_spd g) k = sr_spd g k := by
  intro k
  induction k with
  | zero => intro _; rfl
  | succ k ih => intro hk; rw [sr_fw, ih (by omega)]; exact Nat.min_eq_left (sr_st_f g (by omega))
theorem sr_bw_spd (g : sr_Sg) : ∀ d, d ≤ g.1 → sr_bw g.2.1 g.2.2.2.2 g.1 (sr_spd g) (g.1 - d) = sr_spd g (g.1 - d) := by
  intro d
  induction d with
  | zero => intro _; rw [Nat.sub_zero, sr_bw_end]
  | succ d ih =>
    intro hd
    rw [sr_bw_at _ _ _ _ (show g.1 - (d + 1) < g.1 by omega), show g.1 - (d + 1) + 1 = g.1 - d by omega, ih (by omega)]
    have := sr_st_b g (show g.1 - (d + 1) < g.1 by omega)
    rw [show g.1 - (d + 1) + 1 = g.1 - d by omega] at this
    exact Nat.min_eq_left this
/-! the answers and the next states -/
def sr_sFirst (g : sr_Sg) (x y z : Int32) : sr_Sg := if sr_isOne x y z = 1 then (g.1, g.2.1, (x, y, z), g.2.2.2.1, g.2.2.2.2) else g
def sr_sLast (g : sr_Sg) (x y z : Int32) : sr_Sg := if sr_isOne x y z = 1 then (g.1, g.2.1, g.2.2.1, (x, y, z), g.2.2.2.2) else g
def sr_mok (g : sr_Sg) (n f : Int32) : Prop := ¬ n < 1 ∧ ¬ 100000 < n ∧ ¬ f < 1 ∧ ¬ 99999 < f ∧ ¬ g.1 = 2000
def sr_sMove (g : sr_Sg) (n f : Int32) : sr_Sg := (g.1 + 1, g.2.1, g.2.2.1, g.2.2.2.1, va_up g.2.2.2.2 g.1 (n.toNatClampNeg, f.toNatClampNeg, g.2.2.1, g.2.2.2.1))
def sr_bok (g : sr_Sg) (n : Int32) : Prop := ¬ n < 0 ∧ n ≤ nI g.1
def sr_sBack (g : sr_Sg) (n : Int32) : sr_Sg := (g.1 - n.toNatClampNeg, g.2.1, g.2.2.1, g.2.2.2.1, g.2.2.2.2)
def sr_aok (n : Int32) : Prop := ¬ n < 1 ∧ n ≤ 10000
def sr_sAcc (g : sr_Sg) (n : Int32) : sr_Sg := (g.1, n.toNatClampNeg, g.2.2.1, g.2.2.2.1, g.2.2.2.2)
/-- what a method does: answer and next state; a law of both classes -/
def sr_pMove (g : sr_Sg) (n f r : Int32) (g' : sr_Sg) : Prop := (sr_mok g n f ∧ r = nI (g.1 + 1) ∧ g' = sr_sMove g n f) ∨ (¬ sr_mok g n f ∧ r = -1 ∧ g' = g)
def sr_pBack (g : sr_Sg) (n r : Int32) (g' : sr_Sg) : Prop := (sr_bok g n ∧ r = nI (g.1 - n.toNatClampNeg) ∧ g' = sr_sBack g n) ∨ (¬ sr_bok g n ∧ r = -1 ∧ g' = g)
def sr_pAcc (g : sr_Sg) (n r : Int32) (g' : sr_Sg) : Prop := (sr_aok n ∧ r = 1 ∧ g' = sr_sAcc g n) ∨ (¬ sr_aok n ∧ r = 0 ∧ g' = g)
def sr_pLim (g : sr_Sg) (k r : Int32) : Prop := (sr_bok g k ∧ r = nI (sr_lim g k.toNatClampNeg)) ∨ (¬ sr_bok g k ∧ r = -1)
def sr_pSpd (g : sr_Sg) (k r : Int32) : Prop := (sr_bok g k ∧ r = nI (sr_spd g k.toNatClampNeg)) ∨ (¬ sr_bok g k ∧ r = -1)
def sr_sum (f : Nat → Nat) : Nat → Int64
  | 0 => 0
  | n + 1 => sr_sum f n + (nI (f n)).toInt64
def sr_bel (f h : Nat → Nat) : Nat → Int32
  | 0 => 0
  | n + 1 => if nI (f n) < nI (h n) then sr_bel f h n + 1 else sr_bel f h n
theorem sr_pMove_det {g g1 g2 : sr_Sg} {n f r1 r2 : Int32} (h1 : sr_pMove g n f r1 g1) (h2 : sr_pMove g n f r2 g2) : r1 = r2 ∧ g1 = g2 := by
  rcases h1 with ⟨a, b, c⟩ | ⟨a, b, c⟩ <;> rcases h2 with ⟨a', b', c'⟩ | ⟨a', b', c'⟩
  · exact ⟨b.trans b'.symm, c.trans c'.symm⟩
  · exact absurd a a'
  · exact absurd a' a
  · exact ⟨b.trans b'.symm, c.trans c'.symm⟩
theorem sr_pBack_det {g g1 g2 : sr_Sg} {n r1 r2 : Int32} (h1 : sr_pBack g n r1 g1) (h2 : sr_pBack g n r2 g2) : r1 = r2 ∧ g1 = g2 := by
  rcases h1 with ⟨a, b, c⟩ | ⟨a, b, c⟩ <;> rcases h2 with ⟨a', b', c'⟩ | ⟨a', b', c'⟩
  · exact ⟨b.trans b'.symm, c.trans c'.symm⟩
  · exact absurd a a'
  · exact absurd a' a
  · exact ⟨b.trans b'.symm, c.trans c'.symm⟩
theorem sr_pAcc_det {g g1 g2 : sr_Sg} {n r1 r2 : Int32} (h1 : sr_pAcc g n r1 g1) (h2 : sr_pAcc g n r2 g2) : r1 = r2 ∧ g1 = g2 := by
  rcases h1 with ⟨a, b, c⟩ | ⟨a, b, c⟩ <;> rcases h2 with ⟨a', b', c'⟩ | ⟨a', b', c'⟩
  · exact ⟨b.trans b'.symm, c.trans c'.symm⟩
  · exact absurd a a'
  · exact absurd a' a
  · exact ⟨b.trans b'.symm, c.trans c'.symm⟩
theorem sr_pLim_det {g : sr_Sg} {k r1 r2 : Int32} (h1 : sr_pLim g k r1) (h2 : sr_pLim g k r2) : r1 = r2 := by
  rcases h1 with ⟨a, b⟩ | ⟨a, b⟩ <;> rcases h2 with ⟨a', b'⟩ | ⟨a', b'⟩
  · exact b.trans b'.symm
  · exact absurd a a'
  · exact absurd a' a
  · exact b.trans b'.symm
theorem sr_pSpd_det {g : sr_Sg} {k r1 r2 : Int32} (h1 : sr_pSpd g k r1) (h2 : sr_pSpd g k r2) : r1 = r2 := by
  rcases h1 with ⟨a, b⟩ | ⟨a, b⟩ <;> rcases h2 with ⟨a', b'⟩ | ⟨a', b'⟩
  · exact b.trans b'.symm
  · exact absurd a a'
  · exact absurd a' a
  · exact b.trans b'.symm
/-- an int between two bounds, as a number -/
theorem sr_num {n M : Int32} {k : Nat} (h1 : ¬ n < 1) (h2 : ¬ M < n) (hM : M.toInt = (k : Int)) : n = nI n.toNatClampNeg ∧ 1 ≤ n.toNatClampNeg ∧ n.toNatClampNeg ≤ k ∧ k < 2 ^ 31 := by
  rw [Int32.lt_iff_toInt_lt] at h1 h2
  rw [show (1 : Int32).toInt = 1 by decide] at h1
  rw [hM] at h2
  have hb := M.toInt_lt
  obtain ⟨j, hj, rfl⟩ := nI_of (x := n) (by rw [Int32.lt_iff_toInt_lt, show (0 : Int32).toInt = 0 by decide]; omega)
  rw [nI_toInt hj] at h1 h2
  rw [nI_clamp hj]
  exact ⟨rfl, by omega, by omega, by omega⟩
theorem sr_mok_num {g : sr_Sg} {n f : Int32} (h : sr_mok g n f) : n = nI n.toNatClampNeg ∧ 1 ≤ n.toNatClampNeg ∧ n.toNatClampNeg ≤ 100000 ∧ f = nI f.toNatClampNeg ∧ 1 ≤ f.toNatClampNeg ∧ f.toNatClampNeg ≤ 99999 := by
  obtain ⟨a, b, c, d, -⟩ := h
  obtain ⟨x1, x2, x3, -⟩ := sr_num (k := 100000) a b (by decide)
  obtain ⟨y1, y2, y3, -⟩ := sr_num (k := 99999) c d (by decide)
  exact ⟨x1, x2, x3, y1, y2, y3⟩
theorem sr_bok_num {g : sr_Sg} {n : Int32} (hg : g.1 ≤ 2000) (h : sr_bok g n) : n = nI n.toNatClampNeg ∧ n.toNatClampNeg ≤ g.1 := by
  obtain ⟨a, b⟩ := h
  obtain ⟨j, hj, rfl⟩ := nI_of a
  rw [nI_clamp hj]
  exact ⟨rfl, (nI_leI hj (by omega)).mp b⟩
theorem sr_aok_num {n : Int32} (h : sr_aok n) : n = nI n.toNatClampNeg ∧ 1 ≤ n.toNatClampNeg ∧ n.toNatClampNeg ≤ 10000 := by
  obtain ⟨a, b⟩ := h
  obtain ⟨x1, x2, x3, -⟩ := sr_num (k := 10000) (M := 10000) a (by rw [Int32.lt_iff_toInt_lt]; rw [Int32.le_iff_toInt_le] at b; omega) (by decide)
  exact ⟨x1, x2, x3⟩
/-! the states stay good -/
theorem sr_OK_first {g : sr_Sg} (h : sr_OK g) (x y z : Int32) : sr_OK (sr_sFirst g x y z) := by
  unfold sr_sFirst
  split
  · rename_i q
    exact ⟨h.1, h.2.1, h.2.2.1, q, h.2.2.2.2.1, h.2.2.2.2.2⟩
  · exact h
theorem sr_OK_last {g : sr_Sg} (h : sr_OK g) (x y z : Int32) : sr_OK (sr_sLast g x y z) := by
  unfold sr_sLast
  split
  · rename_i q
    exact ⟨h.1, h.2.1, h.2.2.1, h.2.2.2.1, q, h.2.2.2.2.2⟩
  · exact h
theorem sr_OK_move {g : sr_Sg} (h : sr_OK g) {n f : Int32} (hm : sr_mok g n f) : sr_OK (sr_sMove g n f) := by
  obtain ⟨x1, x2, x3, y1, y2, y3⟩ := sr_mok_num hm
  obtain ⟨h1, h2, h3, h4, h5, h6⟩ := h
  have h7 := hm.2.2.2.2
  refine ⟨?_, h2, h3, h4, h5, ?_⟩
  · show g.1 + 1 ≤ 2000
    omega
  · intro i hi
    have hi : i < g.1 + 1 := hi
    show sr_okM (va_up g.2.2.2.2 g.1 (n.toNatClampNeg, f.toNatClampNeg, g.2.2.1, g.2.2.2.1) i)
    by_cases q : i = g.1
    · rw [q, va_up_self]
      exact ⟨x2, x3, y2, y3, h4, h5⟩
    · rw [va_up_ne _ _ q]
      exact h6 i (by omega)
theorem sr_OK_back {g : sr_Sg} (h : sr_OK g) (n : Int32) : sr_OK (sr_sBack g n) := by
  obtain ⟨h1, h2, h3, h4, h5, h6⟩ := h
  refine ⟨Nat.le_trans (Nat.sub_le _ _) h1, h2, h3, h4, h5, fun i hi => h6 i ?_⟩
  have hi : i < g.1 - n.toNatClampNeg := hi
  omega
theorem sr_OK_acc {g : sr_Sg} (h : sr_OK g) {n : Int32} (ha : sr_aok n) : sr_OK (sr_sAcc g n) := by
  obtain ⟨x1, x2, x3⟩ := sr_aok_num ha
  obtain ⟨h1, h2, h3, h4, h5, h6⟩ := h
  exact ⟨h1, x2, x3, h4, h5, h6⟩
theorem sr_OK_pMove {g g' : sr_Sg} (h : sr_OK g) {n f r : Int32} (hp : sr_pMove g n f r g') : sr_OK g' := by
  rcases hp with ⟨a, -, c⟩ | ⟨a, -, c⟩
  · rw [c]; exact sr_OK_move h a
  · rw [c]; exact h
theorem sr_OK_pBack {g g' : sr_Sg} (h : sr_OK g) {n r : Int32} (hp : sr_pBack g n r g') : sr_OK g' := by
  rcases hp with ⟨a, -, c⟩ | ⟨a, -, c⟩
  · rw [c]; exact sr_OK_back h n
  · rw [c]; exact h
theorem sr_OK_pAcc {g g' : sr_Sg} (h : sr_OK g) {n r : Int32} (hp : sr_pAcc g n r g') : sr_OK g' := by
  rcases hp with ⟨a, -, c⟩ | ⟨a, -, c⟩
  · rw [c]; exact sr_OK_acc h a
  · rw [c]; exact h
end
section
/-! bits: rows of BITS.to-paste -/
theorem wb_tb (n : Nat) : (lN n).toBitVec = BitVec.ofNat 64 n := rfl
theorem wb_inj {a b : Int64} (h : a.toBitVec = b.toBitVec) : a = b := Int64.toBitVec_inj.mp h
theorem wb_c : ∀ k, k < 64 → ((nI k).toInt64 &&& 63) = lN k := by decide +kernel
theorem wb_sm : ∀ k, k < 64 → (BitVec.ofNat 64 k).smod 64 = BitVec.ofNat 64 k := by decide +kernel
theorem wb_shl (n : Nat) {k : Nat} (hk : k < 64) : lN n <<< ((nI k).toInt64 &&& 63) = lN (n * 2 ^ k) := by
  rw [wb_c k hk]
  apply wb_inj
  rw [Int64.toBitVec_shiftLeft, wb_tb, wb_tb, wb_tb, wb_sm k hk]
  apply BitVec.eq_of_toNat_eq
  rw [BitVec.shiftLeft_eq', BitVec.toNat_shiftLeft, BitVec.toNat_ofNat, BitVec.toNat_ofNat, BitVec.toNat_ofNat, Nat.mod_eq_of_lt (show k < 2 ^ 64 by omega), Nat.shiftLeft_eq, Nat.mul_mod, Nat.mod_mod, ← Nat.mul_mod]
theorem u_tn {n : Nat} (h : n < 2 ^ 64) : (UInt64.ofNat n).toNat = n := Nat.mod_eq_of_lt h
theorem g_or {k p a b : Nat} (hp : 2 ^ k = p) (ha : a < p) (h : b * p + a < 2 ^ 64) : lN (b * p) ||| lN a = lN (b * p + a) := by
  subst hp
  have h1 : b * 2 ^ k ||| a = b * 2 ^ k + a := by rw [← Nat.shiftLeft_eq, Nat.shiftLeft_add_eq_or_of_lt ha]
  have h3 : UInt64.ofNat (b * 2 ^ k) ||| UInt64.ofNat a = UInt64.ofNat (b * 2 ^ k + a) := UInt64.toNat_inj.mp (by rw [UInt64.toNat_or, u_tn (by omega), u_tn (by omega), u_tn h, h1])
  have h2 := congrArg UInt64.toInt64 h3
  exact h2
/-! the class's root, bit by bit -/
theorem sr_bit_or {q b : Nat} (hb : b ≤ 30) (h : q * 2 ^ (b + 1) + 2 ^ (b + 1) ≤ 2147483648) : lN (q * 2 ^ (b + 1)) ||| ((1 : Int64) <<< ((nI b).toInt64 &&& 63)) = lN (q * 2 ^ (b + 1) + 2 ^ b) := by
  rw [show (1 : Int64) = lN 1 from rfl, wb_shl 1 (by omega), Nat.one_mul]
  have e : 2 ^ (b + 1) = 2 * 2 ^ b := by rw [Nat.pow_succ, Nat.mul_comm]
  refine g_or (k := b + 1) rfl (Nat.pow_lt_pow_right (by decide) (by omega)) ?_
  generalize q * 2 ^ (b + 1) = x at h ⊢
  omega
theorem sr_lcmp (x y : Int64) : lg_cmp x y = if y < x then 1 else if x = y then 0 else -1 := by
  first | rfl | (unfold lg_cmp; rfl) | simp [lg_cmp]
theorem sr_lcmp_gt {a b : Nat} (ha : a < 2 ^ 63) (hb : b < 2 ^ 63) : 0 < lg_cmp (lN a) (lN b) ↔ b < a := by
  rw [sr_lcmp]
  by_cases h : b < a
  · rw [if_pos ((pk_lLT hb ha).mpr h)]
    exact ⟨fun _ => h, fun _ => by decide⟩
  · rw [if_neg (fun q => h ((pk_lLT hb ha).mp q))]
    constructor
    · intro q
      split at q <;> exact absurd q (by decide)
    · intro q; exact absurd q h
theorem sr_lcmp_ge {a b : Nat} (ha : a < 2 ^ 63) (hb : b < 2 ^ 63) : 0 ≤ lg_cmp (lN a) (lN b) ↔ b ≤ a := by
  rw [sr_lcmp]
  by_cases h : b < a
  · rw [if_pos ((pk_lLT hb ha).mpr h)]
    exact ⟨fun _ => by omega, fun _ => by decide⟩
  · rw [if_neg (fun q => h ((pk_lLT hb ha).mp q))]
    by_cases h2 : a = b
    · rw [if_pos (by rw [h2])]
      exact ⟨fun _ => by omega, fun _ => by decide⟩
    · rw [if_neg (fun q => h2 ((pk_lEQ ha hb).mp q))]
      exact ⟨fun q => absurd q (by decide), fun q => by omega⟩
theorem sr_lcmp_self (x : Int64) : lg_cmp x x = 0 := by
  rw [sr_lcmp, if_neg (by rw [Int64.lt_iff_toInt_lt]; omega), if_pos rfl]
/-! worlds: parts by membership, and two worlds side by side -/
theorem sr_Psub {D : va_G} {cl : List vw_C} {ws ws' : va_W} {H : Heap} (hP : va_P D cl ws H) (h : ∀ q ∈ ws', q ∈ ws) : va_P D cl ws' H := by
  intro j x hx
  obtain ⟨k, hk⟩ := List.getElem?_of_mem (h x (List.mem_of_getElem? hx))
  exact hP k x hk
theorem sr_P1 {D : va_G} {cl : List vw_C} {ws : va_W} {H : Heap} {q : Nat × va_E} (hP : va_P D cl ws H) (h : q ∈ ws) : va_P D cl [q] H :=
  sr_Psub hP (fun x hx => by rw [List.mem_singleton.mp hx]; exact h)
theorem sr_Pl {D : va_G} {cl : List vw_C} {a b : va_W} {H : Heap} (hP : va_P D cl (a ++ b) H) : va_P D cl a H := sr_Psub hP (fun _ h => List.mem_append_left _ h)
theorem sr_Pr {D : va_G} {cl : List vw_C} {a b : va_W} {H : Heap} (hP : va_P D cl (a ++ b) H) : va_P D cl b H := sr_Psub hP (fun _ h => List.mem_append_right _ h)
theorem sr_gl {a b : va_W} {i : Nat} {p : Nat × va_E} (h : a[i]? = some p) : (a ++ b)[i]? = some p := by
  rw [List.getElem?_append_left (List.getElem?_eq_some_iff.mp h).1]; exact h
theorem sr_gr2 {a b : va_W} {i : Nat} {p : Nat × va_E} (h : b[i]? = some p) : (a ++ b)[a.length + i]? = some p := by
  rw [List.getElem?_append_right (by omega), Nat.add_sub_cancel_left]; exact h
theorem sr_Dl {A : Nat → Prop} {a b : va_W} (hD : va_D A (a ++ b)) : va_D A a :=
  ⟨fun i j p q hi hj e => hD.1 i j p q (sr_gl hi) (sr_gl hj) e, fun k q hk => hD.2 k q (sr_gl hk)⟩
theorem sr_Dr {A : Nat → Prop} {a b : va_W} (hD : va_D A (a ++ b)) : va_D A b :=
  ⟨fun i j p q hi hj e => by have := hD.1 _ _ p q (sr_gr2 (a := a) hi) (sr_gr2 (a := a) hj) e; omega, fun k q hk => hD.2 _ q (sr_gr2 (a := a) hk)⟩
theorem sr_Dx {A : Nat → Prop} {a b : va_W} (hD : va_D A (a ++ b)) {i j : Nat} {p q : Nat × va_E} (hi : a[i]? = some p) (hj : b[j]? = some q) : p.1 ≠ q.1 := by
  intro e
  have h1 := hD.1 _ _ p q (sr_gl hi) (sr_gr2 (a := a) hj) e
  have h2 := (List.getElem?_eq_some_iff.mp hi).1
  omega
/-- which cells the left callee may change are the caller's -/
theorem sr_fL {A0 : Nat → Prop} {a b : va_W} {H0 H : Heap} {locs : List Loc} (hD : va_D A0 (a ++ b)) (hS : va_S A0 H0 H locs) (hA : ∀ q, H0.size ≤ q → A0 q) : ∀ q, va_A a H.size q → A0 q := by
  intro q h
  rcases h with ⟨k, e, h⟩ | h
  · exact (sr_Dl hD).2 k (q, e) h
  · exact hA q (Nat.le_trans hS.1 h)
theorem sr_fR {A0 : Nat → Prop} {a b : va_W} {H0 H : Heap} {locs : List Loc} (hD : va_D A0 (a ++ b)) (hS : va_S A0 H0 H locs) (hA : ∀ q, H0.size ≤ q → A0 q) : ∀ q, va_A b H.size q → A0 q := by
  intro q h
  rcases h with ⟨k, e, h⟩ | h
  · exact (sr_Dr hD).2 k (q, e) h
  · exact hA q (Nat.le_trans hS.1 h)
theorem sr_fW {A0 : Nat → Prop} {a : va_W} {H0 H : Heap} {locs : List Loc} (hD : va_D A0 a) (hS : va_S A0 H0 H locs) (hA : ∀ q, H0.size ≤ q → A0 q) : ∀ q, va_A a H.size q → A0 q := by
  intro q h
  rcases h with ⟨k, e, h⟩ | h
  · exact hD.2 k (q, e) h
  · exact hA q (Nat.le_trans hS.1 h)
/-- behind a call of the left world -/
theorem sr_jL {A0 : Nat → Prop} {D : va_G} {cl : List vw_C} {a b a' : va_W} {H H1 : Heap} (hP : va_P D cl (a ++ b) H) (hD : va_D A0 (a ++ b)) (hk : ∀ q : Nat, q < H.size → ¬ va_A a H.size q → H1[q]? = H[q]?) (hF : ∀ q, va_A a H.size q → A0 q) (hP1 : va_P D cl a' H1) (hD1 : va_D (va_A a H.size) a') : va_P D cl (a' ++ b) H1 ∧ va_D A0 (a' ++ b) := by
  have apart : ∀ (k : Nat) (q : Nat × va_E), b[k]? = some q → q.1 < H.size ∧ ¬ va_A a H.size q.1 := by
    intro k q hq
    have hl := (sr_Pr hP k q hq).lt
    refine ⟨hl, fun h => ?_⟩
    rcases h with ⟨k2, e, h⟩ | h
    · exact sr_Dx hD h hq rfl
    · omega
  refine ⟨va_P.app hP1 (fun k q hq => ?_), va_D.app (hD1.weaken (fun k q _ h => hF q.1 h)) (sr_Dr hD) (fun i j x y hx hy hxy => ?_)⟩
  · obtain ⟨g1, g2⟩ := apart k q hq
    exact (sr_Pr hP k q hq).kept (hk q.1 g1 g2)
  · exact (apart j y hy).2 (by rw [← hxy]; exact hD1.2 i x hx)
/-- behind a call of the right world -/
theorem sr_jR {A0 : Nat → Prop} {D : va_G} {cl : List vw_C} {a b b' : va_W} {H H1 : Heap} (hP : va_P D cl (a ++ b) H) (hD : va_D A0 (a ++ b)) (hk : ∀ q : Nat, q < H.size → ¬ va_A b H.size q → H1[q]? = H[q]?) (hF : ∀ q, va_A b H.size q → A0 q) (hP1 : va_P D cl b' H1) (hD1 : va_D (va_A b H.size) b') : va_P D cl (a ++ b') H1 ∧ va_D A0 (a ++ b') := by
  have apart : ∀ (k : Nat) (q : Nat × va_E), a[k]? = some q → q.1 < H.size ∧ ¬ va_A b H.size q.1 := by
    intro k q hq
    have hl := (sr_Pl hP k q hq).lt
    refine ⟨hl, fun h => ?_⟩
    rcases h with ⟨k2, e, h⟩ | h
    · exact sr_Dx hD hq h rfl
    · omega
  refine ⟨va_P.app (fun k q hq => ?_) hP1, va_D.app (sr_Dl hD) (hD1.weaken (fun k q _ h => hF q.1 h)) (fun i j x y hx hy hxy => ?_)⟩
  · obtain ⟨g1, g2⟩ := apart k q hq
    exact (sr_Pl hP k q hq).kept (hk q.1 g1 g2)
  · exact (apart i x hx).2 (by rw [hxy]; exact hD1.2 j y hy)
/-! what is known of the tables, all through -/
abbrev vwCl : List vw_C := [(RX0, TX0, 9), (RX1, TX1, 3), (RX2, TX2, 10), (RX3, TX3, 4)]
abbrev sr_tys (cI cB cM : ClassId) : List (ClassId × FieldType) := [(cI, .int), (cB, .byte), (cM, .object RX3)]
def sr_KK (D : va_G) (cI cB cM : ClassId) (U : State) : Prop := va_K D vwCl (sr_tys cI cB cM) U ∧ va_AO RX3 U ∧ va_Nw (.methodLinkNest RX0 31 yX1_init RX0) U ∧ va_Nw (.methodLinkNest RX0 50 yX3_init RX0) U
theorem sr_KK.warm {D : va_G} {cI cB cM : ClassId} {s U : State} (h : sr_KK D cI cB cM s) (hW : s.WarmedH U.vm) : sr_KK D cI cB cM U :=
  ⟨va_K.moved hW.alike h.1, va_AO.moved hW.alike h.2.1, va_Nw.warmM hW h.2.2.1, va_Nw.warmM hW h.2.2.2⟩
theorem sr_KK.call {D : va_G} {cI cB cM : ClassId} {U : State} {g : JFrame} {mk : MethodId} {a : Array Value} (h : sr_KK D cI cB cM U) : sr_KK D cI cB cM (U.calling g mk a) :=
  ⟨va_K.moved (u := U) (U := U.calling g mk a) (Vm.Alike.refl U.vm) h.1, va_AO.moved (u := U) (U := U.calling g mk a) (Vm.Alike.refl U.vm) h.2.1, va_Nw.same rfl (u := U) (U := U.calling g mk a) rfl h.2.2.1, va_Nw.same rfl (u := U) (U := U.calling g mk a) rfl h.2.2.2⟩
/-- a contract's start -/
def sr_Pc (D : va_G) (cI cB cM : ClassId) (av : List Value) (P : Heap → Prop) : Array Value → State → Prop := va_Pc av (fun U => sr_KK D cI cB cM U ∧ P U.heap)
theorem sr_Pc.blind {D : va_G} {cI cB cM : ClassId} {av : List Value} {P : Heap → Prop} : FrameBlind (sr_Pc D cI cB cM av P) := fun a U g mk h => ⟨h.1, h.2.1.call, h.2.2⟩
theorem sr_preS {D : va_G} {cI cB cM : ClassId} {As : List Value} {P : Heap → Prop} {s : State} {H : Heap} (hK : sr_KK D cI cB cM s) (hP : P H) : PreS s H (sr_Pc D cI cB cM As P) As :=
  ⟨sr_Pc.blind, fun U hU hW => ⟨rfl, hK.warm hW, by rw [hU]; exact hP⟩⟩
theorem sr_preV {D : va_G} {cI cB cM : ClassId} {As : List Value} {P : Heap → Prop} {s : State} {H : Heap} {C : String} {b : Addr} (hK : sr_KK D cI cB cM s) (hP : P H) (hr : ∃ cell : Cell, H[b]? = some cell ∧ cell.vm.isStatics = false ∧ s.vm.findClass C = some cell.cls) : PreV s H C b (sr_Pc D cI cB cM (.ref b :: As) P) As :=
  ⟨sr_Pc.blind, hr, fun U hU hW => ⟨rfl, hK.warm hW, by rw [hU]; exact hP⟩⟩
/-- a method that only reads -/
abbrev sr_RoI (l : Launch) (D : va_G) (cI cB cM : ClassId) (y : MethodName) (ws : List Cond) (rm : Room) (av : List Value) (w : va_W) (post : Int32 → Prop) : Prop := Met l y ws rm (sr_Pc D cI cB cM av (va_P D vwCl w)) (vp_Si post) 0 0 (fun _ => False)
abbrev sr_RoL (l : Launch) (D : va_G) (cI cB cM : ClassId) (y : MethodName) (ws : List Cond) (rm : Room) (av : List Value) (w : va_W) (post : Int64 → Prop) : Prop := Met l y ws rm (sr_Pc D cI cB cM av (va_P D vwCl w)) (vp_Sl post) 0 0 (fun _ => False)
abbrev sr_RoR (l : Launch) (D : va_G) (cI cB cM : ClassId) (y : MethodName) (ws : List Cond) (rm : Room) (av : List Value) (w : va_W) (post : Nat → Prop) : Prop := Met l y ws rm (sr_Pc D cI cB cM av (va_P D vwCl w)) (va_Sr post Value.ref) 0 0 (fun _ => False)
/-- a method that changes its world -/
def sr_Cw (D : va_G) (w : va_W) (sz : Nat) : Heap → Prop := fun H => H.size = sz ∧ va_P D vwCl w H
def sr_Bw (D : va_G) (A : Nat → Prop) (u : va_W) (t : State) : Prop := va_P D vwCl u t.heap ∧ va_D A u
abbrev sr_CtI (l : Launch) (D : va_G) (cI cB cM : ClassId) (y : MethodName) (ws : List Cond) (rm : Room) (av : List Value) (w : va_W) (sz : Nat) (post : Int32 → va_W → Prop) (mc ms : Nat) : Prop := Met l y ws rm (sr_Pc D cI cB cM av (sr_Cw D w sz)) (va_Qi post (sr_Bw D (va_A w sz)) (va_A w sz)) mc ms (va_A w sz)
abbrev sr_CtL (l : Launch) (D : va_G) (cI cB cM : ClassId) (y : MethodName) (ws : List Cond) (rm : Room) (av : List Value) (w : va_W) (sz : Nat) (post : Int64 → va_W → Prop) (mc ms : Nat) : Prop := Met l y ws rm (sr_Pc D cI cB cM av (sr_Cw D w sz)) (va_Ql post (sr_Bw D (va_A w sz)) (va_A w sz)) mc ms (va_A w sz)
abbrev sr_CtV (l : Launch) (D : va_G) (cI cB cM : ClassId) (y : MethodName) (ws : List Cond) (rm : Room) (av : List Value) (w : va_W) (sz : Nat) (post : va_W → Prop) (mc ms : Nat) : Prop := Met l y ws rm (sr_Pc D cI cB cM av (sr_Cw D w sz)) (va_Qv post (sr_Bw D (va_A w sz)) (va_A w sz)) mc ms (va_A w sz)
section SRW
variable {p : Program} {l : Launch} {e : Env} {R : Room} {s : State} {m : MethodId} {args : Array Value} {below : List Frame} {meth : Method} {c : Code} {H : Heap} {locs : List Loc} {cells slots : Nat} {Q : State → Prop} {pc : Nat} {ls : Array Slot} {rest : List Value}
/-- the value on top, by another name -/
theorem sr_ti {x y : Int32} (h : x = y) (k : W p l e R s m args below meth c H locs cells slots Q (F0 m pc ls (.int y :: rest))) : W p l e R s m args below meth c H locs cells slots Q (F0 m pc ls (.int x :: rest)) := h ▸ k
theorem sr_tl {x y : Int64} (h : x = y) (k : W p l e R s m args below meth c H locs cells slots Q (F0 m pc ls (.long y :: rest))) : W p l e R s m args below meth c H locs cells slots Q (F0 m pc ls (.long x :: rest)) := h ▸ k
theorem sr_tv {x y : Value} (h : x = y) (k : W p l e R s m args below meth c H locs cells slots Q (F0 m pc ls (y :: rest))) : W p l e R s m args below meth c H locs cells slots Q (F0 m pc ls (x :: rest)) := h ▸ k
end SRW
end
section
/-! contracts of Record, Step, Move (the small objects) -/
abbrev wsJ0_init : List Cond := ws_ yJ0_init cJ0_init 1 none
abbrev wsX1_init : List Cond := ws_ yX1_init cX1_init 4 none
abbrev wsX1_isOne : List Cond := ws_ yX1_isOne cX1_isOne 3 (some .boolean)
abbrev wsX1_times : List Cond := ws_ yX1_times cX1_times 2 (some .int)
abbrev wsX3_init : List Cond := ws_ yX3_init cX3_init 5 none
abbrev wsX3_n : List Cond := ws_ yX3_n cX3_n 1 (some .int)
abbrev wsX3_feed : List Cond := ws_ yX3_feed cX3_feed 1 (some .int)
abbrev wsX3_first : List Cond := ws_ yX3_first cX3_first 1 (some (.object "SpeedRows$Step"))
abbrev wsX3_last : List Cond := ws_ yX3_last cX3_last 1 (some (.object "SpeedRows$Step"))
set_option maxHeartbeats 4000000 in
set_option maxRecDepth 100000 in
/-- Record(): nothing -/
theorem sr_J0_init (l : Launch) (D : va_G) (cI cB cM : ClassId) (a : Nat) (w0 : va_W) : Met l yJ0_init wsJ0_init ({ frames := 1, cells := 0, slots := 0, locals := 12 }) (sr_Pc D cI cB cM [.ref a] (va_P D vwCl w0)) (va_Sv (fun _ => True)) 0 0 (fun _ => False) := by
  refine Met.ofW (cc := cJ0_init) (maxL := 1) (ret := none) (by decide) rfl ?_
  intro p e s m args below meth c s₁ B hml hv
  obtain ⟨rfl, hKK, hP⟩ := hv
  have hx := B.exec
  have hb := B.bytes
  have hr := B.returns
  have hts := atoms_spec (ws := wsJ0_init) B.pre
  have hts : ∀ w ∈ lw_all, w.before _ s = true := fun w h => hts w (List.mem_cons_of_mem _ h)
  have hown : s.vm.findClass RJ0 = some m.cls := findClass_of_methodNamed B.named
  have hlocks := B.notSynchronized
  have hl := lv_entry ([.ref a]) (n := 1) (Nat.le_of_ble_eq_true rfl)
  rw [lg_entry_eq]
  generalize (lg_sl ([.ref a]) ++ List.replicate (1 - (lg_sl ([.ref a])).length) Slot.unset).toArray = ls at hl ⊢
  have hl : lv_has ls 1 [(0, .ref a)] := hl
  refine lv_aload_n hx hb dJ0_init_0 rfl (lv_at hl 0 rfl) ?_
  refine W.objInit hx hb hown (hts _ q31) (hts _ q19) (hts _ q20) rfl (by rw [hml]; exact hl.1) rfl dJ0_init_1 (Nat.le_of_ble_eq_true rfl) (Nat.le_of_ble_eq_true rfl) ?_
  refine W.eq (g2 := F0 m 4 ls []) rfl ?_
  exact W.vret hx hb hr (fun t ht hW => ⟨rfl, trivial, ht⟩) (fun _ h => by cases h) dJ0_init_4
set_option maxHeartbeats 4000000 in
set_option maxRecDepth 100000 in
/-- Step(x, y, z): its three fields -/
theorem sr_X1_init (l : Launch) (D : va_G) (cI cB cM : ClassId) (a sz : Nat) (x y z : Int32) (o1 o2 o3 : Int32) : sr_CtV l D cI cB cM yX1_init wsX1_init ({ frames := 2, cells := 0, slots := 0, locals := 32 }) [.ref a, .int x, .int y, .int z] [(a, .inr (1, [.int o1, .int o2, .int o3]))] sz (fun u => u = [(a, .inr (1, [.int x, .int y, .int z]))]) 0 0 := by
  refine Met.ofW (cc := cX1_init) (maxL := 4) (ret := none) (by decide) rfl ?_
  intro p e s m args below meth c s₁ B hml hv
  obtain ⟨rfl, hKK, hsz, hP⟩ := hv
  have hx := B.exec
  have hb := B.bytes
  have hr := B.returns
  have hts := atoms_spec (ws := wsX1_init) B.pre
  have hts : ∀ w ∈ lw_all, w.before _ s = true := fun w h => hts w (List.mem_cons_of_mem _ h)
  have hown : s.vm.findClass RX1 = some m.cls := findClass_of_methodNamed B.named
  have hlocks := B.notSynchronized
  have hin : meth.name = "<init>" := (name_of_methodNamed B.named B.method).1
  subst hsz
  have hD0 : va_D (fun _ => True) [(a, .inr (1, [.int o1, .int o2, .int o3]))] := ⟨fun i j p q hi hj _ => by have h1 := (List.getElem?_eq_some_iff.mp hi).1; have h2 := (List.getElem?_eq_some_iff.mp hj).1; simp only [List.length_cons, List.length_nil] at h1 h2; omega, fun _ _ _ => trivial⟩
  have hD := hD0.self (sz := s.heap.size)
  generalize hAe : va_A [(a, .inr (1, [.int o1, .int o2, .int o3]))] s.heap.size = A at hD ⊢
  have hS : va_S A s.heap s.heap [] := va_S.rf
  have hP : va_P D vwCl [(a, .inr (1, [.int o1, .int o2, .int o3]))] s.heap := hP
  have hl := lv_entry ([.ref a, .int x, .int y, .int z]) (n := 4) (Nat.le_of_ble_eq_true rfl)
  rw [lg_entry_eq]
  generalize (lg_sl ([.ref a, .int x, .int y, .int z]) ++ List.replicate (4 - (lg_sl ([.ref a, .int x, .int y, .int z])).length) Slot.unset).toArray = ls at hl ⊢
  have hl : lv_has ls 4 [(0, .ref a), (1, .int x), (2, .int y), (3, .int z)] := hl
  refine lv_aload_n hx hb dX1_init_0 rfl (lv_at hl 0 rfl) ?_
  refine va_csv (W.runI (As := []) (rest := []) ⟨hx, hb, hml, hown, hts⟩ (sr_J0_init l D cI cB cM a []) (cwI 0 hts (lw_meth q30) rfl rfl rfl (hts _ q8) (hts _ q28) (hts _ q29) rfl (by decide +kernel) ⟨Nat.le_of_ble_eq_true rfl, Nat.le_of_ble_eq_true rfl⟩) (sr_preS hKK (fun k q h => by simp at h)) rfl rfl hl.1 rfl (lv_room (Nat.le_of_ble_eq_true rfl)) dX1_init_1 ⟨Nat.le_of_ble_eq_true rfl, Nat.le_of_ble_eq_true rfl⟩) (fun _ => ?_)
  refine lv_aload_n hx hb dX1_init_4 rfl (lv_at hl 0 rfl) ?_
  refine lv_iload_n hx hb dX1_init_5 rfl (lv_at hl 1 rfl) ?_
  refine va_putF (D := D) (ci := 1) (v := .int x) (ty := .int) (C := RX1) (T := TX1) (N := 3) hx hb hts in_X1 tyX1 tyX1_ok nmX1 hown hKK.1 hP hD hS 0 rfl rfl 0 (by decide) (hts _ q32) (fun _ h9 => h9) rfl hin rfl (by decide +kernel) rfl rfl (Nat.le_of_ble_eq_true rfl) dX1_init_6 (fun H locs hP hD hS => ?_)
  have hP : va_P D vwCl [(a, .inr (1, [.int x, .int o2, .int o3]))] H := hP
  have hD : va_D A [(a, .inr (1, [.int x, .int o2, .int o3]))] := hD
  refine lv_aload_n hx hb dX1_init_9 rfl (lv_at hl 0 rfl) ?_
  refine lv_iload_n hx hb dX1_init_10 rfl (lv_at hl 2 rfl) ?_
  refine va_putF (D := D) (ci := 1) (v := .int y) (ty := .int) (C := RX1) (T := TX1) (N := 3) hx hb hts in_X1 tyX1 tyX1_ok nmX1 hown hKK.1 hP hD hS 0 rfl rfl 1 (by decide) (hts _ q33) (fun _ h9 => h9) rfl hin rfl (by decide +kernel) rfl rfl (Nat.le_of_ble_eq_true rfl) dX1_init_11 (fun H locs hP hD hS => ?_)
  have hP : va_P D vwCl [(a, .inr (1, [.int x, .int y, .int o3]))] H := hP
  have hD : va_D A [(a, .inr (1, [.int x, .int y, .int o3]))] := hD
  refine lv_aload_n hx hb dX1_init_14 rfl (lv_at hl 0 rfl) ?_
  refine lv_iload_n hx hb dX1_init_15 rfl (lv_at hl 3 rfl) ?_
  refine va_putF (D := D) (ci := 1) (v := .int z) (ty := .int) (C := RX1) (T := TX1) (N := 3) hx hb hts in_X1 tyX1 tyX1_ok nmX1 hown hKK.1 hP hD hS 0 rfl rfl 2 (by decide) (hts _ q34) (fun _ h9 => h9) rfl hin rfl (by decide +kernel) rfl rfl (Nat.le_of_ble_eq_true rfl) dX1_init_16 (fun H locs hP hD hS => ?_)
  have hP : va_P D vwCl [(a, .inr (1, [.int x, .int y, .int z]))] H := hP
  have hD : va_D A [(a, .inr (1, [.int x, .int y, .int z]))] := hD
  exact W.vret hx hb hr (fun t ht hW => ⟨⟨_, rfl, rfl, by rw [ht]; exact hP, hD⟩, hS.F ht⟩) hS.2.2 dX1_init_19
set_option maxHeartbeats 4000000 in
set_option maxRecDepth 100000 in
/-- Move(n, feed, first, last): its four fields -/
theorem sr_X3_init (l : Launch) (D : va_G) (cI cB cM : ClassId) (a sz : Nat) (x y : Int32) (f1 f2 : Nat) (o1 o2 : Int32) (v1 v2 : Value) : sr_CtV l D cI cB cM yX3_init wsX3_init ({ frames := 2, cells := 0, slots := 0, locals := 32 }) [.ref a, .int x, .int y, .ref f1, .ref f2] [(a, .inr (3, [.int o1, .int o2, v1, v2]))] sz (fun u => u = [(a, .inr (3, [.int x, .int y, .ref f1, .ref f2]))]) 0 0 := by
  refine Met.ofW (cc := cX3_init) (maxL := 5) (ret := none) (by decide) rfl ?_
  intro p e s m args below meth c s₁ B hml hv
  obtain ⟨rfl, hKK, hsz, hP⟩ := hv
  have hx := B.exec
  have hb := B.bytes
  have hr := B.returns
  have hts := atoms_spec (ws := wsX3_init) B.pre
  have hts : ∀ w ∈ lw_all, w.before _ s = true := fun w h => hts w (List.mem_cons_of_mem _ h)
  have hown : s.vm.findClass RX3 = some m.cls := findClass_of_methodNamed B.named
  have hlocks := B.notSynchronized
  have hin : meth.name = "<init>" := (name_of_methodNamed B.named B.method).1
  subst hsz
  have hD0 : va_D (fun _ => True) [(a, .inr (3, [.int o1, .int o2, v1, v2]))] := ⟨fun i j p q hi hj _ => by have h1 := (List.getElem?_eq_some_iff.mp hi).1; have h2 := (List.getElem?_eq_some_iff.mp hj).1; simp only [List.length_cons, List.length_nil] at h1 h2; omega, fun _ _ _ => trivial⟩
  have hD := hD0.self (sz := s.heap.size)
  generalize hAe : va_A [(a, .inr (3, [.int o1, .int o2, v1, v2]))] s.heap.size = A at hD ⊢
  have hS : va_S A s.heap s.heap [] := va_S.rf
  have hP : va_P D vwCl [(a, .inr (3, [.int o1, .int o2, v1, v2]))] s.heap := hP
  have hl := lv_entry ([.ref a, .int x, .int y, .ref f1, .ref f2]) (n := 5) (Nat.le_of_ble_eq_true rfl)
  rw [lg_entry_eq]
  generalize (lg_sl ([.ref a, .int x, .int y, .ref f1, .ref f2]) ++ List.replicate (5 - (lg_sl ([.ref a, .int x, .int y, .ref f1, .ref f2])).length) Slot.unset).toArray = ls at hl ⊢
  have hl : lv_has ls 5 [(0, .ref a), (1, .int x), (2, .int y), (3, .ref f1), (4, .ref f2)] := hl
  refine lv_aload_n hx hb dX3_init_0 rfl (lv_at hl 0 rfl) ?_
  refine va_csv (W.runI (As := []) (rest := []) ⟨hx, hb, hml, hown, hts⟩ (sr_J0_init l D cI cB cM a []) (cwI 0 hts (lw_meth q30) rfl rfl rfl (hts _ q8) (hts _ q92) (hts _ q29) rfl (by decide +kernel) ⟨Nat.le_of_ble_eq_true rfl, Nat.le_of_ble_eq_true rfl⟩) (sr_preS hKK (fun k q h => by simp at h)) rfl rfl hl.1 rfl (lv_room (Nat.le_of_ble_eq_true rfl)) dX3_init_1 ⟨Nat.le_of_ble_eq_true rfl, Nat.le_of_ble_eq_true rfl⟩) (fun _ => ?_)
  refine lv_aload_n hx hb dX3_init_4 rfl (lv_at hl 0 rfl) ?_
  refine lv_iload_n hx hb dX3_init_5 rfl (lv_at hl 1 rfl) ?_
  refine va_putF (D := D) (ci := 3) (v := .int x) (ty := .int) (C := RX3) (T := TX3) (N := 4) hx hb hts in_X3 tyX3 tyX3_ok nmX3 hown hKK.1 hP hD hS 0 rfl rfl 0 (by decide) (hts _ q93) (fun _ h9 => h9) rfl hin rfl (by decide +kernel) rfl rfl (Nat.le_of_ble_eq_true rfl) dX3_init_6 (fun H locs hP hD hS => ?_)
  have hP : va_P D vwCl [(a, .inr (3, [.int x, .int o2, v1, v2]))] H := hP
  have hD : va_D A [(a, .inr (3, [.int x, .int o2, v1, v2]))] := hD
  refine lv_aload_n hx hb dX3_init_9 rfl (lv_at hl 0 rfl) ?_
  refine lv_iload_n hx hb dX3_init_10 rfl (lv_at hl 2 rfl) ?_
  refine va_putF (D := D) (ci := 3) (v := .int y) (ty := .int) (C := RX3) (T := TX3) (N := 4) hx hb hts in_X3 tyX3 tyX3_ok nmX3 hown hKK.1 hP hD hS 0 rfl rfl 1 (by decide) (hts _ q94) (fun _ h9 => h9) rfl hin rfl (by decide +kernel) rfl rfl (Nat.le_of_ble_eq_true rfl) dX3_init_11 (fun H locs hP hD hS => ?_)
  have hP : va_P D vwCl [(a, .inr (3, [.int x, .int y, v1, v2]))] H := hP
  have hD : va_D A [(a, .inr (3, [.int x, .int y, v1, v2]))] := hD
  refine lv_aload_n hx hb dX3_init_14 rfl (lv_at hl 0 rfl) ?_
  refine lv_aload_n hx hb dX3_init_15 rfl (lv_at hl 3 rfl) ?_
  refine va_putF (D := D) (ci := 3) (v := .ref f1) (ty := .object "SpeedRows$Step") (C := RX3) (T := TX3) (N := 4) hx hb hts in_X3 tyX3 tyX3_ok nmX3 hown hKK.1 hP hD hS 0 rfl rfl 2 (by decide) (hts _ q95) (fun _ h9 => h9) rfl hin rfl (by decide +kernel) rfl rfl (Nat.le_of_ble_eq_true rfl) dX3_init_16 (fun H locs hP hD hS => ?_)
  have hP : va_P D vwCl [(a, .inr (3, [.int x, .int y, .ref f1, v2]))] H := hP
  have hD : va_D A [(a, .inr (3, [.int x, .int y, .ref f1, v2]))] := hD
  refine lv_aload_n hx hb dX3_init_19 rfl (lv_at hl 0 rfl) ?_
  refine lv_aload hx hb dX3_init_20 (lv_at hl 4 rfl) ?_
  refine va_putF (D := D) (ci := 3) (v := .ref f2) (ty := .object "SpeedRows$Step") (C := RX3) (T := TX3) (N := 4) hx hb hts in_X3 tyX3 tyX3_ok nmX3 hown hKK.1 hP hD hS 0 rfl rfl 3 (by decide) (hts _ q96) (fun _ h9 => h9) rfl hin rfl (by decide +kernel) rfl rfl (Nat.le_of_ble_eq_true rfl) dX3_init_22 (fun H locs hP hD hS => ?_)
  have hP : va_P D vwCl [(a, .inr (3, [.int x, .int y, .ref f1, .ref f2]))] H := hP
  have hD : va_D A [(a, .inr (3, [.int x, .int y, .ref f1, .ref f2]))] := hD
  exact W.vret hx hb hr (fun t ht hW => ⟨⟨_, rfl, rfl, by rw [ht]; exact hP, hD⟩, hS.F ht⟩) hS.2.2 dX3_init_25
set_option maxHeartbeats 4000000 in
set_option maxRecDepth 100000 in
/-- Step.isOne(x, y, z) -/
theorem sr_X1_isOne (l : Launch) (D : va_G) (cI cB cM : ClassId) (x y z : Int32) : sr_RoI l D cI cB cM yX1_isOne wsX1_isOne ({ frames := 0, cells := 0, slots := 0, locals := 0 }) [.int x, .int y, .int z] [] (fun r => r = sr_isOne x y z) := by
  refine Met.ofW (cc := cX1_isOne) (maxL := 3) (ret := (some .boolean)) (by decide) rfl ?_
  intro p e s m args below meth c s₁ B hml hv
  obtain ⟨rfl, hKK, hP⟩ := hv
  have hx := B.exec
  have hb := B.bytes
  have hr := B.returns
  have hts := atoms_spec (ws := wsX1_isOne) B.pre
  have hts : ∀ w ∈ lw_all, w.before _ s = true := fun w h => hts w (List.mem_cons_of_mem _ h)
  have hown : s.vm.findClass RX1 = some m.cls := findClass_of_methodNamed B.named
  have hlocks := B.notSynchronized
  have hl := lv_entry ([.int x, .int y, .int z]) (n := 3) (Nat.le_of_ble_eq_true rfl)
  rw [lg_entry_eq]
  generalize (lg_sl ([.int x, .int y, .int z]) ++ List.replicate (3 - (lg_sl ([.int x, .int y, .int z])).length) Slot.unset).toArray = ls at hl ⊢
  have hl : lv_has ls 3 [(0, .int x), (1, .int y), (2, .int z)] := hl
  refine lv_iload_n hx hb dX1_isOne_0 rfl (lv_at hl 0 rfl) ?_
  refine lv_iconst (v := (-1)) hx hb dX1_isOne_1 (by decide +kernel) ?_
  refine lv_icmp_lt (tgt := 46) hx hb dX1_isOne_2 (by decide) (fun c1 => ?_) (fun c1 => ?_)
  · refine lv_iconst (v := (nI 0)) hx hb dX1_isOne_46 (by decide +kernel) ?_
    exact W.zret (v := 0) hx hb hr rfl (fun t ht hW => ⟨0, rfl, (if_neg (fun h => h.1 c1)).symm, ht⟩) (fun _ h => by cases h) dX1_isOne_47
  refine lv_iload_n hx hb dX1_isOne_5 rfl (lv_at hl 0 rfl) ?_
  refine lv_iconst (v := (nI 1)) hx hb dX1_isOne_6 (by decide +kernel) ?_
  refine lv_icmp_gt (tgt := 46) hx hb dX1_isOne_7 (by decide) (fun c2 => ?_) (fun c2 => ?_)
  · refine lv_iconst (v := (nI 0)) hx hb dX1_isOne_46 (by decide +kernel) ?_
    exact W.zret (v := 0) hx hb hr rfl (fun t ht hW => ⟨0, rfl, (if_neg (fun h => h.2.1 c2)).symm, ht⟩) (fun _ h => by cases h) dX1_isOne_47
  refine lv_iload_n hx hb dX1_isOne_10 rfl (lv_at hl 1 rfl) ?_
  refine lv_iconst (v := (-1)) hx hb dX1_isOne_11 (by decide +kernel) ?_
  refine lv_icmp_lt (tgt := 46) hx hb dX1_isOne_12 (by decide) (fun c3 => ?_) (fun c3 => ?_)
  · refine lv_iconst (v := (nI 0)) hx hb dX1_isOne_46 (by decide +kernel) ?_
    exact W.zret (v := 0) hx hb hr rfl (fun t ht hW => ⟨0, rfl, (if_neg (fun h => h.2.2.1 c3)).symm, ht⟩) (fun _ h => by cases h) dX1_isOne_47
  refine lv_iload_n hx hb dX1_isOne_15 rfl (lv_at hl 1 rfl) ?_
  refine lv_iconst (v := (nI 1)) hx hb dX1_isOne_16 (by decide +kernel) ?_
  refine lv_icmp_gt (tgt := 46) hx hb dX1_isOne_17 (by decide) (fun c4 => ?_) (fun c4 => ?_)
  · refine lv_iconst (v := (nI 0)) hx hb dX1_isOne_46 (by decide +kernel) ?_
    exact W.zret (v := 0) hx hb hr rfl (fun t ht hW => ⟨0, rfl, (if_neg (fun h => h.2.2.2.1 c4)).symm, ht⟩) (fun _ h => by cases h) dX1_isOne_47
  refine lv_iload_n hx hb dX1_isOne_20 rfl (lv_at hl 2 rfl) ?_
  refine lv_iconst (v := (-1)) hx hb dX1_isOne_21 (by decide +kernel) ?_
  refine lv_icmp_lt (tgt := 46) hx hb dX1_isOne_22 (by decide) (fun c5 => ?_) (fun c5 => ?_)
  · refine lv_iconst (v := (nI 0)) hx hb dX1_isOne_46 (by decide +kernel) ?_
    exact W.zret (v := 0) hx hb hr rfl (fun t ht hW => ⟨0, rfl, (if_neg (fun h => h.2.2.2.2.1 c5)).symm, ht⟩) (fun _ h => by cases h) dX1_isOne_47
  refine lv_iload_n hx hb dX1_isOne_25 rfl (lv_at hl 2 rfl) ?_
  refine lv_iconst (v := (nI 1)) hx hb dX1_isOne_26 (by decide +kernel) ?_
  refine lv_icmp_gt (tgt := 46) hx hb dX1_isOne_27 (by decide) (fun c6 => ?_) (fun c6 => ?_)
  · refine lv_iconst (v := (nI 0)) hx hb dX1_isOne_46 (by decide +kernel) ?_
    exact W.zret (v := 0) hx hb hr rfl (fun t ht hW => ⟨0, rfl, (if_neg (fun h => h.2.2.2.2.2.1 c6)).symm, ht⟩) (fun _ h => by cases h) dX1_isOne_47
  refine lv_iload_n hx hb dX1_isOne_30 rfl (lv_at hl 0 rfl) ?_
  refine lv_if_ne (tgt := 42) hx hb dX1_isOne_31 (by decide) (fun c7 => ?_) (fun c7 => ?_)
  · refine lv_iconst (v := (nI 1)) hx hb dX1_isOne_42 (by decide +kernel) ?_
    refine lv_goto (tgt := 47) hx hb dX1_isOne_43 (by decide) ?_
    exact W.zret (v := 1) hx hb hr rfl (fun t ht hW => ⟨1, rfl, (if_pos ⟨c1, c2, c3, c4, c5, c6, fun h => c7 h.1⟩).symm, ht⟩) (fun _ h => by cases h) dX1_isOne_47
  refine lv_iload_n hx hb dX1_isOne_34 rfl (lv_at hl 1 rfl) ?_
  refine lv_if_ne (tgt := 42) hx hb dX1_isOne_35 (by decide) (fun c8 => ?_) (fun c8 => ?_)
  · refine lv_iconst (v := (nI 1)) hx hb dX1_isOne_42 (by decide +kernel) ?_
    refine lv_goto (tgt := 47) hx hb dX1_isOne_43 (by decide) ?_
    exact W.zret (v := 1) hx hb hr rfl (fun t ht hW => ⟨1, rfl, (if_pos ⟨c1, c2, c3, c4, c5, c6, fun h => c8 h.2.1⟩).symm, ht⟩) (fun _ h => by cases h) dX1_isOne_47
  refine lv_iload_n hx hb dX1_isOne_38 rfl (lv_at hl 2 rfl) ?_
  refine lv_if_eq (tgt := 46) hx hb dX1_isOne_39 (by decide) (fun c9 => ?_) (fun c9 => ?_)
  · refine lv_iconst (v := (nI 0)) hx hb dX1_isOne_46 (by decide +kernel) ?_
    exact W.zret (v := 0) hx hb hr rfl (fun t ht hW => ⟨0, rfl, (if_neg (fun h => h.2.2.2.2.2.2 ⟨c7, c8, c9⟩)).symm, ht⟩) (fun _ h => by cases h) dX1_isOne_47
  · refine lv_iconst (v := (nI 1)) hx hb dX1_isOne_42 (by decide +kernel) ?_
    refine lv_goto (tgt := 47) hx hb dX1_isOne_43 (by decide) ?_
    exact W.zret (v := 1) hx hb hr rfl (fun t ht hW => ⟨1, rfl, (if_pos ⟨c1, c2, c3, c4, c5, c6, fun h => c9 h.2.2⟩).symm, ht⟩) (fun _ h => by cases h) dX1_isOne_47
set_option maxHeartbeats 4000000 in
set_option maxRecDepth 100000 in
/-- Step.times(s): the dot -/
theorem sr_X1_times (l : Launch) (D : va_G) (cI cB cM : ClassId) (a b : Nat) (u v : sr_Tr) : sr_RoI l D cI cB cM yX1_times wsX1_times ({ frames := 0, cells := 0, slots := 0, locals := 0 }) [.ref a, .ref b] [(a, .inr (1, [.int u.1, .int u.2.1, .int u.2.2])), (b, .inr (1, [.int v.1, .int v.2.1, .int v.2.2]))] (fun r => r = sr_dt u v) := by
  refine Met.ofW (cc := cX1_times) (maxL := 2) (ret := (some .int)) (by decide) rfl ?_
  intro p e s m args below meth c s₁ B hml hv
  obtain ⟨rfl, hKK, hP⟩ := hv
  have hx := B.exec
  have hb := B.bytes
  have hr := B.returns
  have hts := atoms_spec (ws := wsX1_times) B.pre
  have hts : ∀ w ∈ lw_all, w.before _ s = true := fun w h => hts w (List.mem_cons_of_mem _ h)
  have hown : s.vm.findClass RX1 = some m.cls := findClass_of_methodNamed B.named
  have hlocks := B.notSynchronized
  have hl := lv_entry ([.ref a, .ref b]) (n := 2) (Nat.le_of_ble_eq_true rfl)
  rw [lg_entry_eq]
  generalize (lg_sl ([.ref a, .ref b]) ++ List.replicate (2 - (lg_sl ([.ref a, .ref b])).length) Slot.unset).toArray = ls at hl ⊢
  have hl : lv_has ls 2 [(0, .ref a), (1, .ref b)] := hl
  refine lv_aload_n hx hb dX1_times_0 rfl (lv_at hl 0 rfl) ?_
  refine va_get (D := D) (ci := 1) (v := .int u.1) (C := RX1) (T := TX1) (N := 3) hx hb hts in_X1 hown hKK.1 hP 0 rfl rfl 0 (by decide) (hts _ q32) (fun _ h9 => h9) rfl dX1_times_1 ?_
  refine lv_aload_n hx hb dX1_times_4 rfl (lv_at hl 1 rfl) ?_
  refine va_get (D := D) (ci := 1) (v := .int v.1) (C := RX1) (T := TX1) (N := 3) hx hb hts in_X1 hown hKK.1 hP 1 rfl rfl 0 (by decide) (hts _ q32) (fun _ h9 => h9) rfl dX1_times_5 ?_
  refine lv_imul hx hb dX1_times_8 ?_
  refine lv_aload_n hx hb dX1_times_9 rfl (lv_at hl 0 rfl) ?_
  refine va_get (D := D) (ci := 1) (v := .int u.2.1) (C := RX1) (T := TX1) (N := 3) hx hb hts in_X1 hown hKK.1 hP 0 rfl rfl 1 (by decide) (hts _ q33) (fun _ h9 => h9) rfl dX1_times_10 ?_
  refine lv_aload_n hx hb dX1_times_13 rfl (lv_at hl 1 rfl) ?_
  refine va_get (D := D) (ci := 1) (v := .int v.2.1) (C := RX1) (T := TX1) (N := 3) hx hb hts in_X1 hown hKK.1 hP 1 rfl rfl 1 (by decide) (hts _ q33) (fun _ h9 => h9) rfl dX1_times_14 ?_
  refine lv_imul hx hb dX1_times_17 ?_
  refine lv_iadd hx hb dX1_times_18 ?_
  refine lv_aload_n hx hb dX1_times_19 rfl (lv_at hl 0 rfl) ?_
  refine va_get (D := D) (ci := 1) (v := .int u.2.2) (C := RX1) (T := TX1) (N := 3) hx hb hts in_X1 hown hKK.1 hP 0 rfl rfl 2 (by decide) (hts _ q34) (fun _ h9 => h9) rfl dX1_times_20 ?_
  refine lv_aload_n hx hb dX1_times_23 rfl (lv_at hl 1 rfl) ?_
  refine va_get (D := D) (ci := 1) (v := .int v.2.2) (C := RX1) (T := TX1) (N := 3) hx hb hts in_X1 hown hKK.1 hP 1 rfl rfl 2 (by decide) (hts _ q34) (fun _ h9 => h9) rfl dX1_times_24 ?_
  refine lv_imul hx hb dX1_times_27 ?_
  refine lv_iadd hx hb dX1_times_28 ?_
  exact W.iret (v := sr_dt u v) hx hb hr (fun t ht hW => ⟨_, rfl, rfl, ht⟩) (fun _ h => by cases h) dX1_times_29
set_option maxHeartbeats 4000000 in
set_option maxRecDepth 100000 in
/-- Move.n() -/
theorem sr_X3_n (l : Launch) (D : va_G) (cI cB cM : ClassId) (a : Nat) (n fd : Int32) (f1 f2 : Nat) : sr_RoI l D cI cB cM yX3_n wsX3_n ({ frames := 0, cells := 0, slots := 0, locals := 0 }) [.ref a] [(a, .inr (3, [.int n, .int fd, .ref f1, .ref f2]))] (fun r => r = n) := by
  refine Met.ofW (cc := cX3_n) (maxL := 1) (ret := (some .int)) (by decide) rfl ?_
  intro p e s m args below meth c s₁ B hml hv
  obtain ⟨rfl, hKK, hP⟩ := hv
  have hx := B.exec
  have hb := B.bytes
  have hr := B.returns
  have hts := atoms_spec (ws := wsX3_n) B.pre
  have hts : ∀ w ∈ lw_all, w.before _ s = true := fun w h => hts w (List.mem_cons_of_mem _ h)
  have hown : s.vm.findClass RX3 = some m.cls := findClass_of_methodNamed B.named
  have hlocks := B.notSynchronized
  have hl := lv_entry ([.ref a]) (n := 1) (Nat.le_of_ble_eq_true rfl)
  rw [lg_entry_eq]
  generalize (lg_sl ([.ref a]) ++ List.replicate (1 - (lg_sl ([.ref a])).length) Slot.unset).toArray = ls at hl ⊢
  have hl : lv_has ls 1 [(0, .ref a)] := hl
  refine lv_aload_n hx hb dX3_n_0 rfl (lv_at hl 0 rfl) ?_
  refine va_get (D := D) (ci := 3) (v := .int n) (C := RX3) (T := TX3) (N := 4) hx hb hts in_X3 hown hKK.1 hP 0 rfl rfl 0 (by decide) (hts _ q93) (fun _ h9 => h9) rfl dX3_n_1 ?_
  exact W.iret (v := n) hx hb hr (fun t ht hW => ⟨_, rfl, rfl, ht⟩) (fun _ h => by cases h) dX3_n_4
set_option maxHeartbeats 4000000 in
set_option maxRecDepth 100000 in
/-- Move.feed() -/
theorem sr_X3_feed (l : Launch) (D : va_G) (cI cB cM : ClassId) (a : Nat) (n fd : Int32) (f1 f2 : Nat) : sr_RoI l D cI cB cM yX3_feed wsX3_feed ({ frames := 0, cells := 0, slots := 0, locals := 0 }) [.ref a] [(a, .inr (3, [.int n, .int fd, .ref f1, .ref f2]))] (fun r => r = fd) := by
  refine Met.ofW (cc := cX3_feed) (maxL := 1) (ret := (some .int)) (by decide) rfl ?_
  intro p e s m args below meth c s₁ B hml hv
  obtain ⟨rfl, hKK, hP⟩ := hv
  have hx := B.exec
  have hb := B.bytes
  have hr := B.returns
  have hts := atoms_spec (ws := wsX3_feed) B.pre
  have hts : ∀ w ∈ lw_all, w.before _ s = true := fun w h => hts w (List.mem_cons_of_mem _ h)
  have hown : s.vm.findClass RX3 = some m.cls := findClass_of_methodNamed B.named
  have hlocks := B.notSynchronized
  have hl := lv_entry ([.ref a]) (n := 1) (Nat.le_of_ble_eq_true rfl)
  rw [lg_entry_eq]
  generalize (lg_sl ([.ref a]) ++ List.replicate (1 - (lg_sl ([.ref a])).length) Slot.unset).toArray = ls at hl ⊢
  have hl : lv_has ls 1 [(0, .ref a)] := hl
  refine lv_aload_n hx hb dX3_feed_0 rfl (lv_at hl 0 rfl) ?_
  refine va_get (D := D) (ci := 3) (v := .int fd) (C := RX3) (T := TX3) (N := 4) hx hb hts in_X3 hown hKK.1 hP 0 rfl rfl 1 (by decide) (hts _ q94) (fun _ h9 => h9) rfl dX3_feed_1 ?_
  exact W.iret (v := fd) hx hb hr (fun t ht hW => ⟨_, rfl, rfl, ht⟩) (fun _ h => by cases h) dX3_feed_4
set_option maxHeartbeats 4000000 in
set_option maxRecDepth 100000 in
/-- Move.first() -/
theorem sr_X3_first (l : Launch) (D : va_G) (cI cB cM : ClassId) (a : Nat) (n fd : Int32) (f1 f2 : Nat) : sr_RoR l D cI cB cM yX3_first wsX3_first ({ frames := 0, cells := 0, slots := 0, locals := 0 }) [.ref a] [(a, .inr (3, [.int n, .int fd, .ref f1, .ref f2]))] (fun r => r = f1) := by
  refine Met.ofW (cc := cX3_first) (maxL := 1) (ret := (some (.object "SpeedRows$Step"))) (by decide) rfl ?_
  intro p e s m args below meth c s₁ B hml hv
  obtain ⟨rfl, hKK, hP⟩ := hv
  have hx := B.exec
  have hb := B.bytes
  have hr := B.returns
  have hts := atoms_spec (ws := wsX3_first) B.pre
  have hts : ∀ w ∈ lw_all, w.before _ s = true := fun w h => hts w (List.mem_cons_of_mem _ h)
  have hown : s.vm.findClass RX3 = some m.cls := findClass_of_methodNamed B.named
  have hlocks := B.notSynchronized
  have hl := lv_entry ([.ref a]) (n := 1) (Nat.le_of_ble_eq_true rfl)
  rw [lg_entry_eq]
  generalize (lg_sl ([.ref a]) ++ List.replicate (1 - (lg_sl ([.ref a])).length) Slot.unset).toArray = ls at hl ⊢
  have hl : lv_has ls 1 [(0, .ref a)] := hl
  refine lv_aload_n hx hb dX3_first_0 rfl (lv_at hl 0 rfl) ?_
  refine va_get (D := D) (ci := 3) (v := .ref f1) (C := RX3) (T := TX3) (N := 4) hx hb hts in_X3 hown hKK.1 hP 0 rfl rfl 2 (by decide) (hts _ q95) (fun _ h9 => h9) rfl dX3_first_1 ?_
  exact W.aret (v := .ref f1) hx hb hr (Or.inl ⟨_, rfl⟩) (Or.inr ⟨_, rfl⟩) (fun t ht hW => ⟨f1, rfl, rfl, ht⟩) (fun _ h => by cases h) dX3_first_4
set_option maxHeartbeats 4000000 in
set_option maxRecDepth 100000 in
/-- Move.last() -/
theorem sr_X3_last (l : Launch) (D : va_G) (cI cB cM : ClassId) (a : Nat) (n fd : Int32) (f1 f2 : Nat) : sr_RoR l D cI cB cM yX3_last wsX3_last ({ frames := 0, cells := 0, slots := 0, locals := 0 }) [.ref a] [(a, .inr (3, [.int n, .int fd, .ref f1, .ref f2]))] (fun r => r = f2) := by
  refine Met.ofW (cc := cX3_last) (maxL := 1) (ret := (some (.object "SpeedRows$Step"))) (by decide) rfl ?_
  intro p e s m args below meth c s₁ B hml hv
  obtain ⟨rfl, hKK, hP⟩ := hv
  have hx := B.exec
  have hb := B.bytes
  have hr := B.returns
  have hts := atoms_spec (ws := wsX3_last) B.pre
  have hts : ∀ w ∈ lw_all, w.before _ s = true := fun w h => hts w (List.mem_cons_of_mem _ h)
  have hown : s.vm.findClass RX3 = some m.cls := findClass_of_methodNamed B.named
  have hlocks := B.notSynchronized
  have hl := lv_entry ([.ref a]) (n := 1) (Nat.le_of_ble_eq_true rfl)
  rw [lg_entry_eq]
  generalize (lg_sl ([.ref a]) ++ List.replicate (1 - (lg_sl ([.ref a])).length) Slot.unset).toArray = ls at hl ⊢
  have hl : lv_has ls 1 [(0, .ref a)] := hl
  refine lv_aload_n hx hb dX3_last_0 rfl (lv_at hl 0 rfl) ?_
  refine va_get (D := D) (ci := 3) (v := .ref f2) (C := RX3) (T := TX3) (N := 4) hx hb hts in_X3 hown hKK.1 hP 0 rfl rfl 3 (by decide) (hts _ q96) (fun _ h9 => h9) rfl dX3_last_1 ?_
  exact W.aret (v := .ref f2) hx hb hr (Or.inl ⟨_, rfl⟩) (Or.inr ⟨_, rfl⟩) (fun t ht hW => ⟨f2, rfl, rfl, ht⟩) (fun _ h => by cases h) dX3_last_4
end
section
/-! SpeedRows: the methods that only read -/
theorem sr_P0 {D : va_G} {cl : List vw_C} {H : Heap} : va_P D cl [] H := fun k q h => by simp at h
abbrev wsX0_corner : List Cond := ws_ yX0_corner cX0_corner 4 (some .int)
abbrev wsX0_root : List Cond := ws_ yX0_root cX0_root 7 (some .int)
abbrev wsX0_reached : List Cond := ws_ yX0_reached cX0_reached 3 (some .int)
abbrev wsX0_isCorner : List Cond := ws_ yX0_isCorner cX0_isCorner 2 (some .boolean)
abbrev wsX0_limit : List Cond := ws_ yX0_limit cX0_limit 2 (some .int)
set_option maxHeartbeats 4000000 in
set_option maxRecDepth 100000 in
/-- corner(a, b) -/
theorem sr_X0_corner (l : Launch) (D : va_G) (cI cB cM : ClassId) (a b a1 la fb b2 : Nat) (ma mb : sr_Mv) (ha : sr_okM ma) (hbm : sr_okM mb) : sr_RoI l D cI cB cM yX0_corner wsX0_corner ({ frames := 1, cells := 0, slots := 0, locals := 40 } : Room) [.ref a, .ref b] [(a, .inr (3, [.int (nI ma.1), .int (nI ma.2.1), .ref a1, .ref la])), (b, .inr (3, [.int (nI mb.1), .int (nI mb.2.1), .ref fb, .ref b2])), (la, .inr (1, [.int ma.2.2.2.1, .int ma.2.2.2.2.1, .int ma.2.2.2.2.2])), (fb, .inr (1, [.int mb.2.2.1.1, .int mb.2.2.1.2.1, .int mb.2.2.1.2.2]))] (fun r => r = nI (sr_cor ma mb)) := by
  refine Met.ofW (cc := cX0_corner) (maxL := 4) (ret := (some .int)) (by decide) rfl ?_
  intro p e s m args below meth c s₁ B hml hv
  obtain ⟨rfl, hKK, hP⟩ := hv
  have hx := B.exec
  have hb := B.bytes
  have hr := B.returns
  have hts := atoms_spec (ws := wsX0_corner) B.pre
  have hts : ∀ w ∈ lw_all, w.before _ s = true := fun w h => hts w (List.mem_cons_of_mem _ h)
  have hown : s.vm.findClass RX0 = some m.cls := findClass_of_methodNamed B.named
  have hlocks := B.notSynchronized
  have hl := lv_entry ([.ref a, .ref b]) (n := 4) (Nat.le_of_ble_eq_true rfl)
  rw [lg_entry_eq]
  generalize (lg_sl ([.ref a, .ref b]) ++ List.replicate (4 - (lg_sl ([.ref a, .ref b])).length) Slot.unset).toArray = ls at hl ⊢
  have hl : lv_has ls 4 [(0, .ref a), (1, .ref b)] := hl
  have hPa := hP.sub (ws' := [(a, .inr (3, [.int (nI ma.1), .int (nI ma.2.1), .ref a1, .ref la]))]) [0] rfl
  have hPb := hP.sub (ws' := [(b, .inr (3, [.int (nI mb.1), .int (nI mb.2.1), .ref fb, .ref b2]))]) [1] rfl
  have hPlf := hP.sub (ws' := [(la, .inr (1, [.int ma.2.2.2.1, .int ma.2.2.2.2.1, .int ma.2.2.2.2.2])), (fb, .inr (1, [.int mb.2.2.1.1, .int mb.2.2.1.2.1, .int mb.2.2.1.2.2]))]) [2, 3] rfl
  have hPll := hP.sub (ws' := [(la, .inr (1, [.int ma.2.2.2.1, .int ma.2.2.2.2.1, .int ma.2.2.2.2.2])), (la, .inr (1, [.int ma.2.2.2.1, .int ma.2.2.2.2.1, .int ma.2.2.2.2.2]))]) [2, 2] rfl
  have hPff := hP.sub (ws' := [(fb, .inr (1, [.int mb.2.2.1.1, .int mb.2.2.1.2.1, .int mb.2.2.1.2.2])), (fb, .inr (1, [.int mb.2.2.1.1, .int mb.2.2.1.2.1, .int mb.2.2.1.2.2]))]) [3, 3] rfl
  refine lv_iconst (v := (nI 0)) hx hb dX0_corner_0 (by decide +kernel) ?_
  refine lv_aload_n hx hb dX0_corner_1 rfl (lv_at hl 0 rfl) ?_
  refine va_csr (W.runV (As := []) (rest := [.int (nI 0)]) ⟨hx, hb, hml, hown, hts⟩ (sr_X3_last l D cI cB cM a (nI ma.1) (nI ma.2.1) a1 la) (cwV 0 hts (lw_V q109 q110 q111 q11 q112) rfl rfl rfl (by decide +kernel) ⟨Nat.le_of_ble_eq_true rfl, Nat.le_of_ble_eq_true rfl⟩) (sr_preV hKK hPa (va_recv hKK.1 hPa (ci := 3) (q0 := 0) rfl rfl)) rfl rfl hl.1 rfl (lv_room (Nat.le_of_ble_eq_true rfl)) dX0_corner_2 ⟨Nat.le_of_ble_eq_true rfl, Nat.le_of_ble_eq_true rfl⟩) (fun r1 hr1 => ?_)
  have hr1 := hr1.symm
  subst hr1
  refine lv_aload_n hx hb dX0_corner_5 rfl (lv_at hl 1 rfl) ?_
  refine va_csr (W.runV (As := []) (rest := [.ref la, .int (nI 0)]) ⟨hx, hb, hml, hown, hts⟩ (sr_X3_first l D cI cB cM b (nI mb.1) (nI mb.2.1) fb b2) (cwV 0 hts (lw_V q113 q114 q115 q11 q116) rfl rfl rfl (by decide +kernel) ⟨Nat.le_of_ble_eq_true rfl, Nat.le_of_ble_eq_true rfl⟩) (sr_preV hKK hPb (va_recv hKK.1 hPb (ci := 3) (q0 := 0) rfl rfl)) rfl rfl hl.1 rfl (lv_room (Nat.le_of_ble_eq_true rfl)) dX0_corner_6 ⟨Nat.le_of_ble_eq_true rfl, Nat.le_of_ble_eq_true rfl⟩) (fun r2 hr2 => ?_)
  have hr2 := hr2.symm
  subst hr2
  refine vp_callSi (W.runV (As := [.ref fb]) (rest := [.int (nI 0)]) ⟨hx, hb, hml, hown, hts⟩ (sr_X1_times l D cI cB cM la fb ma.2.2.2 mb.2.2.1) (cwV 1 hts (lw_V q117 q118 q119 q9 q120) rfl rfl rfl (by decide +kernel) ⟨Nat.le_of_ble_eq_true rfl, Nat.le_of_ble_eq_true rfl⟩) (sr_preV hKK hPlf (va_recv hKK.1 hPlf (ci := 1) (q0 := 0) rfl rfl)) rfl rfl hl.1 rfl (lv_room (Nat.le_of_ble_eq_true rfl)) dX0_corner_9 ⟨Nat.le_of_ble_eq_true rfl, Nat.le_of_ble_eq_true rfl⟩) (fun r3 hr3 => ?_)
  have hr3 := hr3.symm
  subst hr3
  refine va_mmax hx hb (by rw [hml]; exact hl.1.symm) hown (hts _ q121) (hts _ q122) (hts _ q12) (hts _ q123) (Nat.le_of_ble_eq_true rfl) (Nat.le_of_ble_eq_true rfl) (Nat.le_of_ble_eq_true rfl) (Nat.le_of_ble_eq_true rfl) dX0_corner_12 ?_
  refine sr_ti (y := (sr_dp ma.2.2.2 mb.2.2.1)) (rfl) ?_
  refine lv_istore_n (lv' := [(2, .int (sr_dp ma.2.2.2 mb.2.2.1)), (0, .ref a), (1, .ref b)]) hx hb dX0_corner_15 rfl hl (by decide) rfl (fun ls hl => ?_)
  refine lv_aload_n hx hb dX0_corner_16 rfl (lv_at hl 1 rfl) ?_
  refine va_csr (W.runV (As := []) (rest := []) ⟨hx, hb, hml, hown, hts⟩ (sr_X3_last l D cI cB cM a (nI ma.1) (nI ma.2.1) a1 la) (cwV 0 hts (lw_V q109 q110 q111 q11 q112) rfl rfl rfl (by decide +kernel) ⟨Nat.le_of_ble_eq_true rfl, Nat.le_of_ble_eq_true rfl⟩) (sr_preV hKK hPa (va_recv hKK.1 hPa (ci := 3) (q0 := 0) rfl rfl)) rfl rfl hl.1 rfl (lv_room (Nat.le_of_ble_eq_true rfl)) dX0_corner_17 ⟨Nat.le_of_ble_eq_true rfl, Nat.le_of_ble_eq_true rfl⟩) (fun r4 hr4 => ?_)
  have hr4 := hr4.symm
  subst hr4
  refine lv_aload_n hx hb dX0_corner_20 rfl (lv_at hl 1 rfl) ?_
  refine va_csr (W.runV (As := []) (rest := [.ref la]) ⟨hx, hb, hml, hown, hts⟩ (sr_X3_last l D cI cB cM a (nI ma.1) (nI ma.2.1) a1 la) (cwV 0 hts (lw_V q109 q110 q111 q11 q112) rfl rfl rfl (by decide +kernel) ⟨Nat.le_of_ble_eq_true rfl, Nat.le_of_ble_eq_true rfl⟩) (sr_preV hKK hPa (va_recv hKK.1 hPa (ci := 3) (q0 := 0) rfl rfl)) rfl rfl hl.1 rfl (lv_room (Nat.le_of_ble_eq_true rfl)) dX0_corner_21 ⟨Nat.le_of_ble_eq_true rfl, Nat.le_of_ble_eq_true rfl⟩) (fun r5 hr5 => ?_)
  have hr5 := hr5.symm
  subst hr5
  refine vp_callSi (W.runV (As := [.ref la]) (rest := []) ⟨hx, hb, hml, hown, hts⟩ (sr_X1_times l D cI cB cM la la ma.2.2.2 ma.2.2.2) (cwV 1 hts (lw_V q117 q118 q119 q9 q120) rfl rfl rfl (by decide +kernel) ⟨Nat.le_of_ble_eq_true rfl, Nat.le_of_ble_eq_true rfl⟩) (sr_preV hKK hPll (va_recv hKK.1 hPll (ci := 1) (q0 := 0) rfl rfl)) rfl rfl hl.1 rfl (lv_room (Nat.le_of_ble_eq_true rfl)) dX0_corner_24 ⟨Nat.le_of_ble_eq_true rfl, Nat.le_of_ble_eq_true rfl⟩) (fun r6 hr6 => ?_)
  have hr6 := hr6.symm
  subst hr6
  refine lv_aload_n hx hb dX0_corner_27 rfl (lv_at hl 2 rfl) ?_
  refine va_csr (W.runV (As := []) (rest := [.int (sr_dt ma.2.2.2 ma.2.2.2)]) ⟨hx, hb, hml, hown, hts⟩ (sr_X3_first l D cI cB cM b (nI mb.1) (nI mb.2.1) fb b2) (cwV 0 hts (lw_V q113 q114 q115 q11 q116) rfl rfl rfl (by decide +kernel) ⟨Nat.le_of_ble_eq_true rfl, Nat.le_of_ble_eq_true rfl⟩) (sr_preV hKK hPb (va_recv hKK.1 hPb (ci := 3) (q0 := 0) rfl rfl)) rfl rfl hl.1 rfl (lv_room (Nat.le_of_ble_eq_true rfl)) dX0_corner_28 ⟨Nat.le_of_ble_eq_true rfl, Nat.le_of_ble_eq_true rfl⟩) (fun r7 hr7 => ?_)
  have hr7 := hr7.symm
  subst hr7
  refine lv_aload_n hx hb dX0_corner_31 rfl (lv_at hl 2 rfl) ?_
  refine va_csr (W.runV (As := []) (rest := [.ref fb, .int (sr_dt ma.2.2.2 ma.2.2.2)]) ⟨hx, hb, hml, hown, hts⟩ (sr_X3_first l D cI cB cM b (nI mb.1) (nI mb.2.1) fb b2) (cwV 0 hts (lw_V q113 q114 q115 q11 q116) rfl rfl rfl (by decide +kernel) ⟨Nat.le_of_ble_eq_true rfl, Nat.le_of_ble_eq_true rfl⟩) (sr_preV hKK hPb (va_recv hKK.1 hPb (ci := 3) (q0 := 0) rfl rfl)) rfl rfl hl.1 rfl (lv_room (Nat.le_of_ble_eq_true rfl)) dX0_corner_32 ⟨Nat.le_of_ble_eq_true rfl, Nat.le_of_ble_eq_true rfl⟩) (fun r8 hr8 => ?_)
  have hr8 := hr8.symm
  subst hr8
  refine vp_callSi (W.runV (As := [.ref fb]) (rest := [.int (sr_dt ma.2.2.2 ma.2.2.2)]) ⟨hx, hb, hml, hown, hts⟩ (sr_X1_times l D cI cB cM fb fb mb.2.2.1 mb.2.2.1) (cwV 1 hts (lw_V q117 q118 q119 q9 q120) rfl rfl rfl (by decide +kernel) ⟨Nat.le_of_ble_eq_true rfl, Nat.le_of_ble_eq_true rfl⟩) (sr_preV hKK hPff (va_recv hKK.1 hPff (ci := 1) (q0 := 0) rfl rfl)) rfl rfl hl.1 rfl (lv_room (Nat.le_of_ble_eq_true rfl)) dX0_corner_35 ⟨Nat.le_of_ble_eq_true rfl, Nat.le_of_ble_eq_true rfl⟩) (fun r9 hr9 => ?_)
  have hr9 := hr9.symm
  subst hr9
  refine va_mmax hx hb (by rw [hml]; exact hl.1.symm) hown (hts _ q121) (hts _ q122) (hts _ q12) (hts _ q123) (Nat.le_of_ble_eq_true rfl) (Nat.le_of_ble_eq_true rfl) (Nat.le_of_ble_eq_true rfl) (Nat.le_of_ble_eq_true rfl) dX0_corner_38 ?_
  refine sr_ti (y := (sr_gr ma.2.2.2 mb.2.2.1)) (rfl) ?_
  refine lv_istore_n (lv' := [(3, .int (sr_gr ma.2.2.2 mb.2.2.1)), (2, .int (sr_dp ma.2.2.2 mb.2.2.1)), (0, .ref a), (1, .ref b)]) hx hb dX0_corner_41 rfl hl (by decide) rfl (fun ls hl => ?_)
  refine lv_aload_n hx hb dX0_corner_42 rfl (lv_at hl 2 rfl) ?_
  refine vp_callSi (W.runV (As := []) (rest := []) ⟨hx, hb, hml, hown, hts⟩ (sr_X3_feed l D cI cB cM a (nI ma.1) (nI ma.2.1) a1 la) (cwV 0 hts (lw_V q124 q125 q126 q11 q127) rfl rfl rfl (by decide +kernel) ⟨Nat.le_of_ble_eq_true rfl, Nat.le_of_ble_eq_true rfl⟩) (sr_preV hKK hPa (va_recv hKK.1 hPa (ci := 3) (q0 := 0) rfl rfl)) rfl rfl hl.1 rfl (lv_room (Nat.le_of_ble_eq_true rfl)) dX0_corner_43 ⟨Nat.le_of_ble_eq_true rfl, Nat.le_of_ble_eq_true rfl⟩) (fun r10 hr10 => ?_)
  have hr10 := hr10.symm
  subst hr10
  refine lv_aload_n hx hb dX0_corner_46 rfl (lv_at hl 3 rfl) ?_
  refine vp_callSi (W.runV (As := []) (rest := [.int (nI ma.2.1)]) ⟨hx, hb, hml, hown, hts⟩ (sr_X3_feed l D cI cB cM b (nI mb.1) (nI mb.2.1) fb b2) (cwV 0 hts (lw_V q124 q125 q126 q11 q127) rfl rfl rfl (by decide +kernel) ⟨Nat.le_of_ble_eq_true rfl, Nat.le_of_ble_eq_true rfl⟩) (sr_preV hKK hPb (va_recv hKK.1 hPb (ci := 3) (q0 := 0) rfl rfl)) rfl rfl hl.1 rfl (lv_room (Nat.le_of_ble_eq_true rfl)) dX0_corner_47 ⟨Nat.le_of_ble_eq_true rfl, Nat.le_of_ble_eq_true rfl⟩) (fun r11 hr11 => ?_)
  have hr11 := hr11.symm
  subst hr11
  refine va_mmin hx hb (by rw [hml]; exact hl.1.symm) hown (hts _ q128) (hts _ q129) (hts _ q12) (hts _ q130) (Nat.le_of_ble_eq_true rfl) (Nat.le_of_ble_eq_true rfl) (Nat.le_of_ble_eq_true rfl) (Nat.le_of_ble_eq_true rfl) dX0_corner_50 ?_
  refine lv_iload_n hx hb dX0_corner_53 rfl (lv_at hl 1 rfl) ?_
  refine lv_imul hx hb dX0_corner_54 ?_
  refine lv_iload_n hx hb dX0_corner_55 rfl (lv_at hl 0 rfl) ?_
  refine lv_idiv hx hb dX0_corner_56 (sr_gr_ne ha.2.2.2.2.2 hbm.2.2.2.2.1) ?_
  exact W.iret hx hb hr (fun t ht hW => ⟨_, rfl, sr_cor_x ha hbm, ht⟩) (fun _ h => by cases h) dX0_corner_57
set_option maxHeartbeats 4000000 in
set_option maxRecDepth 100000 in
/-- root(n), bit by bit -/
theorem sr_X0_root (l : Launch) (D : va_G) (cI cB cM : ClassId) (n : Nat) (hn : n < 4611686018427387904) : sr_RoI l D cI cB cM yX0_root wsX0_root ({ frames := 0, cells := 0, slots := 0, locals := 0 } : Room) [.long (lN n)] [] (fun r => r = nI (sr_rt n)) := by
  refine Met.ofW (cc := cX0_root) (maxL := 7) (ret := (some .int)) (by decide) rfl ?_
  intro p e s m args below meth c s₁ B hml hv
  obtain ⟨rfl, hKK, hP⟩ := hv
  have hx := B.exec
  have hb := B.bytes
  have hr := B.returns
  have hts := atoms_spec (ws := wsX0_root) B.pre
  have hts : ∀ w ∈ lw_all, w.before _ s = true := fun w h => hts w (List.mem_cons_of_mem _ h)
  have hown : s.vm.findClass RX0 = some m.cls := findClass_of_methodNamed B.named
  have hlocks := B.notSynchronized
  have hl := lv_entry ([.long (lN n)]) (n := 7) (Nat.le_of_ble_eq_true rfl)
  rw [lg_entry_eq]
  generalize (lg_sl ([.long (lN n)]) ++ List.replicate (7 - (lg_sl ([.long (lN n)])).length) Slot.unset).toArray = ls at hl ⊢
  have hl : lv_has ls 7 [(0, .long (lN n))] := hl
  have loop : ∀ (j q r t : Nat) (ls : Array Slot), j ≤ 31 → t = 2 ^ j → r = q * t → r * r ≤ n → n < (r + t) * (r + t) → r + t ≤ 2147483648 → lv_has ls 7 [(4, .int (nI j + (-1))), (2, .long (lN r)), (0, .long (lN n))] → W p l e (headSpec wsX0_root ({ frames := 0, cells := 0, slots := 0, locals := 0 } : Room)).room s m ([.long (lN n)] : List Value).toArray below meth c s.heap [] 0 0 (MQ below (vp_Si (fun r => r = nI (sr_rt n))) ([.long (lN n)] : List Value).toArray s 0 0 (fun _ => False)) (F0 m 6 ls []) := by
    intro j
    induction j with
    | zero =>
      intro q r t ls hj et er h1 h2 h3 hl
      refine lv_iload hx hb dX0_root_6 (lv_at hl 0 rfl) ?_
      refine lv_if_lt (tgt := 38) hx hb dX0_root_8 (by decide) (fun c_ => ?_) (fun c_ => absurd (by decide +kernel) c_)
      refine lv_lload_n hx hb dX0_root_38 rfl (lv_at hl 1 rfl) ?_
      refine lv_l2i (v := (lN r).toInt32) hx hb dX0_root_39 rfl ?_
      have ht1 : t = 1 := by rw [et]
      subst ht1
      refine sr_ti (y := (nI (sr_rt n))) (by rw [lN_i, sr_rt_uniq h1 h2]) ?_
      exact W.iret hx hb hr (fun t ht hW => ⟨_, rfl, rfl, ht⟩) (fun _ h => by cases h) dX0_root_40
    | succ b ih =>
      intro q r t ls hj et er h1 h2 h3 hl
      obtain ⟨u, hu⟩ : ∃ u : Nat, u = 2 ^ b := ⟨_, rfl⟩
      have et2 : t = 2 * u := by rw [et, hu, Nat.pow_succ, Nat.mul_comm]
      have er2 : r = (2 * q) * u := by rw [er, et2, ← Nat.mul_assoc, Nat.mul_comm q 2]
      have er3 : r + u = (2 * q + 1) * u := by rw [er2]; exact (Nat.succ_mul (2 * q) u).symm
      have hor : lN r ||| ((1 : Int64) <<< ((nI b).toInt64 &&& 63)) = lN (r + u) := by
        rw [er, et, hu]
        exact sr_bit_or (by omega) (by rw [← et, ← er]; exact h3)
      have hru : r + u ≤ 2147483648 := by omega
      have hsq : (r + u) * (r + u) ≤ 2147483648 * 2147483648 := Nat.mul_le_mul hru hru
      refine lv_iload hx hb dX0_root_6 (lv_at hl 0 rfl) ?_
      refine sr_ti (y := (nI b)) (pk_m1 b) ?_
      refine lv_if_lt (tgt := 38) hx hb dX0_root_8 (by decide) (fun c_ => absurd c_ (nI_pos (by omega))) (fun c_ => ?_)
      refine lv_lload_n hx hb dX0_root_11 rfl (lv_at hl 1 rfl) ?_
      refine lv_lconst (v := (lN 1)) hx hb dX0_root_12 (by decide +kernel) ?_
      refine lv_iload hx hb dX0_root_13 (lv_at hl 0 rfl) ?_
      refine sr_ti (y := (nI b)) (pk_m1 b) ?_
      refine lv_lshl hx hb dX0_root_15 rfl ?_
      refine lv_lor hx hb dX0_root_16 ?_
      refine sr_tl (y := (lN (r + u))) (hor) ?_
      refine lv_lstore (lv' := [(5, .long (lN (r + u))), (4, .int (nI (b + 1) + (-1))), (2, .long (lN r)), (0, .long (lN n))]) hx hb dX0_root_17 hl (by decide) rfl (fun ls hl => ?_)
      refine lv_lload hx hb dX0_root_19 (lv_at hl 0 rfl) ?_
      refine lv_lload hx hb dX0_root_21 (lv_at hl 0 rfl) ?_
      refine lv_lmul hx hb dX0_root_23 ?_
      refine sr_tl (y := (lN ((r + u) * (r + u)))) (lN_mul _ _) ?_
      refine lv_lload_n hx hb dX0_root_24 rfl (lv_at hl 3 rfl) ?_
      refine W.lcmp hx hb dX0_root_25 ?_
      refine lv_if_gt (tgt := 32) hx hb dX0_root_26 (by decide) (fun c1 => ?_) (fun c1 => ?_)
      · have c1 := (sr_lcmp_gt (by omega) (by omega)).mp c1
        refine lv_iinc (v := (nI b + (-1))) (lv' := [(4, .int (nI b + (-1))), (5, .long (lN (r + u))), (2, .long (lN r)), (0, .long (lN n))]) hx hb dX0_root_32 hl (k := 1) rfl (by rw [pk_m1 b]; rfl) (by decide) rfl (fun ls hl => ?_)
        refine lv_goto (tgt := 6) hx hb dX0_root_35 (by decide) ?_
        exact ih (2 * q) r u ls (by omega) hu er2 h1 c1 (by omega) (lv_sub hl [0, 2, 3] rfl)
      · have c1 : ¬ n < (r + u) * (r + u) := fun h => c1 ((sr_lcmp_gt (by omega) (by omega)).mpr h)
        refine lv_lload hx hb dX0_root_29 (lv_at hl 0 rfl) ?_
        refine lv_lstore_n (lv' := [(2, .long (lN (r + u))), (5, .long (lN (r + u))), (4, .int (nI (b + 1) + (-1))), (0, .long (lN n))]) hx hb dX0_root_31 rfl hl (by decide) rfl (fun ls hl => ?_)
        refine lv_iinc (v := (nI b + (-1))) (lv' := [(4, .int (nI b + (-1))), (2, .long (lN (r + u))), (5, .long (lN (r + u))), (0, .long (lN n))]) hx hb dX0_root_32 hl (k := 2) rfl (by rw [pk_m1 b]; rfl) (by decide) rfl (fun ls hl => ?_)
        refine lv_goto (tgt := 6) hx hb dX0_root_35 (by decide) ?_
        exact ih (2 * q + 1) (r + u) u ls (by omega) hu er3 (by omega) (by rw [show r + u + u = r + t by omega]; exact h2) (by omega) (lv_sub hl [0, 1, 3] rfl)
  refine lv_lconst (v := (lN 0)) hx hb dX0_root_0 (by decide +kernel) ?_
  refine lv_lstore_n (lv' := [(2, .long (lN 0)), (0, .long (lN n))]) hx hb dX0_root_1 rfl hl (by decide) rfl (fun ls hl => ?_)
  refine lv_bipush (v := (nI 30)) hx hb dX0_root_2 (by decide +kernel) ?_
  refine sr_ti (y := (nI 31 + (-1))) (by decide +kernel) ?_
  refine lv_istore (lv' := [(4, .int (nI 31 + (-1))), (2, .long (lN 0)), (0, .long (lN n))]) hx hb dX0_root_4 hl (by decide) rfl (fun ls hl => ?_)
  exact loop 31 0 0 (2 ^ 31) ls (by omega) rfl (by omega) (by omega) (by omega) (by omega) hl
set_option maxHeartbeats 4000000 in
set_option maxRecDepth 100000 in
/-- reached(v, n) -/
theorem sr_X0_reached (l : Launch) (D : va_G) (cI cB cM : ClassId) (ax : Nat) (v0 v1 v2 v3 v4 v6 v7 v8 : Value) (acc v n : Nat) (hac : acc ≤ 10000) (hv9 : v ≤ 99999) (hn9 : n ≤ 100000) : sr_RoI l D cI cB cM yX0_reached wsX0_reached ({ frames := 1, cells := 0, slots := 0, locals := 26 } : Room) [.ref ax, .int (nI v), .int (nI n)] [(ax, .inr (0, [v0, v1, v2, v3, v4, .int (nI acc), v6, v7, v8]))] (fun r => r = nI (sr_re acc v n)) := by
  refine Met.ofW (cc := cX0_reached) (maxL := 3) (ret := (some .int)) (by decide) rfl ?_
  intro p e s m args below meth c s₁ B hml hv
  obtain ⟨rfl, hKK, hP⟩ := hv
  have hx := B.exec
  have hb := B.bytes
  have hr := B.returns
  have hts := atoms_spec (ws := wsX0_reached) B.pre
  have hts : ∀ w ∈ lw_all, w.before _ s = true := fun w h => hts w (List.mem_cons_of_mem _ h)
  have hown : s.vm.findClass RX0 = some m.cls := findClass_of_methodNamed B.named
  have hlocks := B.notSynchronized
  have hl := lv_entry ([.ref ax, .int (nI v), .int (nI n)]) (n := 3) (Nat.le_of_ble_eq_true rfl)
  rw [lg_entry_eq]
  generalize (lg_sl ([.ref ax, .int (nI v), .int (nI n)]) ++ List.replicate (3 - (lg_sl ([.ref ax, .int (nI v), .int (nI n)])).length) Slot.unset).toArray = ls at hl ⊢
  have hl : lv_has ls 3 [(0, .ref ax), (1, .int (nI v)), (2, .int (nI n))] := hl
  have harg := sr_re_arg hac hv9 hn9
  refine lv_iload_n hx hb dX0_reached_0 rfl (lv_at hl 1 rfl) ?_
  refine lv_i2l (v := (nI v).toInt64) hx hb dX0_reached_1 rfl ?_
  refine sr_tl (y := (lN v)) (nI_l (by omega)) ?_
  refine lv_iload_n hx hb dX0_reached_2 rfl (lv_at hl 1 rfl) ?_
  refine lv_i2l (v := (nI v).toInt64) hx hb dX0_reached_3 rfl ?_
  refine sr_tl (y := (lN v)) (nI_l (by omega)) ?_
  refine lv_lmul hx hb dX0_reached_4 ?_
  refine lv_ldc2 (v := lN 2) hx hb hown (hts _ q139) dX0_reached_5 ?_
  refine lv_aload_n hx hb dX0_reached_8 rfl (lv_at hl 0 rfl) ?_
  refine va_get (D := D) (ci := 0) (v := .int (nI acc)) (C := RX0) (T := TX0) (N := 9) hx hb hts in_X0 hown hKK.1 hP 0 rfl rfl 5 (by decide) (hts _ q48) (fun _ h9 => h9) rfl dX0_reached_9 ?_
  refine lv_i2l (v := (nI acc).toInt64) hx hb dX0_reached_12 rfl ?_
  refine sr_tl (y := (lN acc)) (nI_l (by omega)) ?_
  refine lv_lmul hx hb dX0_reached_13 ?_
  refine lv_iload_n hx hb dX0_reached_14 rfl (lv_at hl 2 rfl) ?_
  refine lv_i2l (v := (nI n).toInt64) hx hb dX0_reached_15 rfl ?_
  refine sr_tl (y := (lN n)) (nI_l (by omega)) ?_
  refine lv_lmul hx hb dX0_reached_16 ?_
  refine lv_ladd hx hb dX0_reached_17 ?_
  refine sr_tl (y := (lN (v * v + 2 * acc * n))) (by rw [lN_mul, lN_mul, lN_mul, lN_add]) ?_
  refine vp_callSi (W.runS (As := [.long (lN (v * v + 2 * acc * n))]) (rest := []) ⟨hx, hb, hml, hown, hts⟩ (sr_X0_root l D cI cB cM (v * v + 2 * acc * n) (by omega)) (va_cwS 1 hts (lw_S q140 q141 q7 q142) rfl rfl rfl (by decide +kernel) ⟨Nat.le_of_ble_eq_true rfl, Nat.le_of_ble_eq_true rfl⟩) (sr_preS hKK sr_P0) rfl rfl hl.1 rfl (lv_room (Nat.le_of_ble_eq_true rfl)) dX0_reached_18 ⟨Nat.le_of_ble_eq_true rfl, Nat.le_of_ble_eq_true rfl⟩) (fun r1 hr1 => ?_)
  have hr1 := hr1.symm
  subst hr1
  exact W.iret hx hb hr (fun t ht hW => ⟨_, rfl, rfl, ht⟩) (fun _ h => by cases h) dX0_reached_21
set_option maxHeartbeats 4000000 in
set_option maxRecDepth 100000 in
/-- isCorner(k) -/
theorem sr_X0_isCorner (l : Launch) (D : va_G) (cI cB cM : ClassId) (ax : Nat) (v0 v1 v2 v3 v5 v6 v7 v8 : Value) (n : Nat) (k : Int32) : sr_RoI l D cI cB cM yX0_isCorner wsX0_isCorner ({ frames := 0, cells := 0, slots := 0, locals := 0 } : Room) [.ref ax, .int k] [(ax, .inr (0, [v0, v1, v2, v3, .int (nI n), v5, v6, v7, v8]))] (fun r => (r = 1 ∧ ¬ k < 0 ∧ k ≤ nI n) ∨ (r = 0 ∧ ¬ (¬ k < 0 ∧ k ≤ nI n))) := by
  refine Met.ofW (cc := cX0_isCorner) (maxL := 2) (ret := (some .boolean)) (by decide) rfl ?_
  intro p e s m args below meth c s₁ B hml hv
  obtain ⟨rfl, hKK, hP⟩ := hv
  have hx := B.exec
  have hb := B.bytes
  have hr := B.returns
  have hts := atoms_spec (ws := wsX0_isCorner) B.pre
  have hts : ∀ w ∈ lw_all, w.before _ s = true := fun w h => hts w (List.mem_cons_of_mem _ h)
  have hown : s.vm.findClass RX0 = some m.cls := findClass_of_methodNamed B.named
  have hlocks := B.notSynchronized
  have hl := lv_entry ([.ref ax, .int k]) (n := 2) (Nat.le_of_ble_eq_true rfl)
  rw [lg_entry_eq]
  generalize (lg_sl ([.ref ax, .int k]) ++ List.replicate (2 - (lg_sl ([.ref ax, .int k])).length) Slot.unset).toArray = ls at hl ⊢
  have hl : lv_has ls 2 [(0, .ref ax), (1, .int k)] := hl
  refine lv_iload_n hx hb dX0_isCorner_0 rfl (lv_at hl 1 rfl) ?_
  refine lv_if_lt (tgt := 16) hx hb dX0_isCorner_1 (by decide) (fun c1 => ?_) (fun c1 => ?_)
  · refine lv_iconst (v := (nI 0)) hx hb dX0_isCorner_16 (by decide +kernel) ?_
    exact W.zret (v := 0) hx hb hr rfl (fun t ht hW => ⟨0, rfl, Or.inr ⟨rfl, fun h => h.1 c1⟩, ht⟩) (fun _ h => by cases h) dX0_isCorner_17
  refine lv_iload_n hx hb dX0_isCorner_4 rfl (lv_at hl 1 rfl) ?_
  refine lv_aload_n hx hb dX0_isCorner_5 rfl (lv_at hl 0 rfl) ?_
  refine va_get (D := D) (ci := 0) (v := .int (nI n)) (C := RX0) (T := TX0) (N := 9) hx hb hts in_X0 hown hKK.1 hP 0 rfl rfl 4 (by decide) (hts _ q47) (fun _ h9 => h9) rfl dX0_isCorner_6 ?_
  refine lv_icmp_gt (tgt := 16) hx hb dX0_isCorner_9 (by decide) (fun c2 => ?_) (fun c2 => ?_)
  · refine lv_iconst (v := (nI 0)) hx hb dX0_isCorner_16 (by decide +kernel) ?_
    exact W.zret (v := 0) hx hb hr rfl (fun t ht hW => ⟨0, rfl, Or.inr ⟨rfl, fun h => absurd h.2 (Int32.not_le.mpr c2)⟩, ht⟩) (fun _ h => by cases h) dX0_isCorner_17
  refine lv_iconst (v := (nI 1)) hx hb dX0_isCorner_12 (by decide +kernel) ?_
  refine lv_goto (tgt := 17) hx hb dX0_isCorner_13 (by decide) ?_
  exact W.zret (v := 1) hx hb hr rfl (fun t ht hW => ⟨1, rfl, Or.inl ⟨rfl, c1, Int32.not_lt.mp c2⟩, ht⟩) (fun _ h => by cases h) dX0_isCorner_17
set_option maxHeartbeats 4000000 in
set_option maxRecDepth 100000 in
/-- limit(k) -/
theorem sr_X0_limit (l : Launch) (D : va_G) (cI cB cM : ClassId) (ax ai : Nat) (v0 v2 v3 v5 v6 v7 v8 : Value) (li : Nat → Int32) (g : sr_Sg) (hg : g.1 ≤ 2000) (hli : ∀ k, 0 < k → k < g.1 → li k = nI (sr_cor (g.2.2.2.2 (k - 1)) (g.2.2.2.2 k))) (k : Int32) : sr_RoI l D cI cB cM yX0_limit wsX0_limit ({ frames := 1, cells := 0, slots := 0, locals := 21 } : Room) [.ref ax, .int k] [(ax, .inr (0, [v0, .ref ai, v2, v3, .int (nI g.1), v5, v6, v7, v8])), (ai, .inl (cI, 2001, .inl li))] (fun r => sr_pLim g k r) := by
  refine Met.ofW (cc := cX0_limit) (maxL := 2) (ret := (some .int)) (by decide) rfl ?_
  intro p e s m args below meth c s₁ B hml hv
  obtain ⟨rfl, hKK, hP⟩ := hv
  have hx := B.exec
  have hb := B.bytes
  have hr := B.returns
  have hts := atoms_spec (ws := wsX0_limit) B.pre
  have hts : ∀ w ∈ lw_all, w.before _ s = true := fun w h => hts w (List.mem_cons_of_mem _ h)
  have hown : s.vm.findClass RX0 = some m.cls := findClass_of_methodNamed B.named
  have hlocks := B.notSynchronized
  have hl := lv_entry ([.ref ax, .int k]) (n := 2) (Nat.le_of_ble_eq_true rfl)
  rw [lg_entry_eq]
  generalize (lg_sl ([.ref ax, .int k]) ++ List.replicate (2 - (lg_sl ([.ref ax, .int k])).length) Slot.unset).toArray = ls at hl ⊢
  have hl : lv_has ls 2 [(0, .ref ax), (1, .int k)] := hl
  have hP0 := hP.sub (ws' := [(ax, .inr (0, [v0, .ref ai, v2, v3, .int (nI g.1), v5, v6, v7, v8]))]) [0] rfl
  refine lv_aload_n hx hb dX0_limit_0 rfl (lv_at hl 0 rfl) ?_
  refine lv_iload_n hx hb dX0_limit_1 rfl (lv_at hl 1 rfl) ?_
  refine vp_callSi (W.runV (As := [.int k]) (rest := []) ⟨hx, hb, hml, hown, hts⟩ (sr_X0_isCorner l D cI cB cM ax v0 (.ref ai) v2 v3 v5 v6 v7 v8 g.1 k) (cwV 1 hts (lw_V q155 q157 qs1 q7 q158) rfl rfl rfl (by decide +kernel) ⟨Nat.le_of_ble_eq_true rfl, Nat.le_of_ble_eq_true rfl⟩) (sr_preV hKK hP0 (va_recv hKK.1 hP0 (ci := 0) (q0 := 0) rfl rfl)) rfl rfl hl.1 rfl (lv_room (Nat.le_of_ble_eq_true rfl)) dX0_limit_2 ⟨Nat.le_of_ble_eq_true rfl, Nat.le_of_ble_eq_true rfl⟩) (fun r1 hr1 => ?_)
  rcases hr1 with ⟨rfl, hok⟩ | ⟨rfl, hno⟩
  · refine lv_if_ne (tgt := 12) hx hb dX0_limit_5 (by decide) (fun c_ => ?_) (fun c_ => absurd c_ (by decide))
    obtain ⟨j, hj, rfl⟩ := nI_of hok.1
    have hjg : j ≤ g.1 := (nI_leI hj (by omega)).mp hok.2
    refine lv_iload_n hx hb dX0_limit_12 rfl (lv_at hl 1 rfl) ?_
    refine lv_if_eq (tgt := 24) hx hb dX0_limit_13 (by decide) (fun c1 => ?_) (fun c1 => ?_)
    · refine lv_iconst (v := (nI 0)) hx hb dX0_limit_24 (by decide +kernel) ?_
      refine lv_goto (tgt := 34) hx hb dX0_limit_25 (by decide) ?_
      exact W.iret hx hb hr (fun t ht hW => ⟨_, rfl, Or.inl ⟨hok, by rw [nI_clamp hj]; unfold sr_lim; rw [if_pos (Or.inl ((nI_eq hj (by decide)).mp c1))]⟩, ht⟩) (fun _ h => by cases h) dX0_limit_34
    · refine lv_iload_n hx hb dX0_limit_16 rfl (lv_at hl 1 rfl) ?_
      refine lv_aload_n hx hb dX0_limit_17 rfl (lv_at hl 0 rfl) ?_
      refine va_get (D := D) (ci := 0) (v := .int (nI g.1)) (C := RX0) (T := TX0) (N := 9) hx hb hts in_X0 hown hKK.1 hP 0 rfl rfl 4 (by decide) (hts _ q47) (fun _ h9 => h9) rfl dX0_limit_18 ?_
      refine lv_icmp_ne (tgt := 28) hx hb dX0_limit_21 (by decide) (fun c2 => ?_) (fun c2 => ?_)
      · have h0 : ¬ j = 0 := fun q => c1 (by rw [q]; rfl)
        have h1 : ¬ j = g.1 := fun q => c2 (by rw [q])
        refine lv_aload_n hx hb dX0_limit_28 rfl (lv_at hl 0 rfl) ?_
        refine va_get (D := D) (ci := 0) (v := .ref ai) (C := RX0) (T := TX0) (N := 9) hx hb hts in_X0 hown hKK.1 hP 0 rfl rfl 1 (by decide) (hts _ q44) (fun _ h9 => h9) rfl dX0_limit_29 ?_
        refine lv_iload_n hx hb dX0_limit_32 rfl (lv_at hl 1 rfl) ?_
        refine va_iald hx hb hKK.1 hP 1 0 rfl rfl (vp_in_nI (by omega) (by omega)) dX0_limit_33 ?_
        exact W.iret hx hb hr (fun t ht hW => ⟨_, rfl, Or.inl ⟨hok, by rw [nI_clamp hj, hli j (by omega) (by omega)]; unfold sr_lim; rw [if_neg (by omega)]⟩, ht⟩) (fun _ h => by cases h) dX0_limit_34
      · refine lv_iconst (v := (nI 0)) hx hb dX0_limit_24 (by decide +kernel) ?_
        refine lv_goto (tgt := 34) hx hb dX0_limit_25 (by decide) ?_
        exact W.iret hx hb hr (fun t ht hW => ⟨_, rfl, Or.inl ⟨hok, by rw [nI_clamp hj]; unfold sr_lim; rw [if_pos (Or.inr ((nI_eq hj (by omega)).mp c2))]⟩, ht⟩) (fun _ h => by cases h) dX0_limit_34
  · refine lv_if_ne (tgt := 12) hx hb dX0_limit_5 (by decide) (fun c_ => absurd (rfl) c_) (fun c_ => ?_)
    refine lv_iconst (v := (-1)) hx hb dX0_limit_8 (by decide +kernel) ?_
    refine lv_goto (tgt := 34) hx hb dX0_limit_9 (by decide) ?_
    exact W.iret hx hb hr (fun t ht hW => ⟨_, rfl, Or.inr ⟨hno, rfl⟩, ht⟩) (fun _ h => by cases h) dX0_limit_34
end
section
/-! SpeedRows: its world, and the methods that change it (back, acceleration, fall, speed, sum, below) -/
/-- a step is in the pool -/
def sr_stp (pl : va_W) (a : Nat) (t : sr_Tr) : Prop := ((a, .inr (1, [.int t.1, .int t.2.1, .int t.2.2])) : Nat × va_E) ∈ pl
/-- a move is in the pool, and its steps -/
def sr_mvA (pl : va_W) (o : Option Nat) (a : sr_Mv) : Prop := ∃ q f1 f2 : Nat, o = some q ∧ ((q, .inr (3, [.int (nI a.1), .int (nI a.2.1), .ref f1, .ref f2])) : Nat × va_E) ∈ pl ∧ sr_stp pl f1 a.2.2.1 ∧ sr_stp pl f2 a.2.2.2
theorem sr_stp.app {pl b : va_W} {a : Nat} {t : sr_Tr} (h : sr_stp pl a t) : sr_stp (pl ++ b) a t := List.mem_append_left _ h
theorem sr_mvA.app {pl b : va_W} {o : Option Nat} {a : sr_Mv} (h : sr_mvA pl o a) : sr_mvA (pl ++ b) o a := by
  obtain ⟨q, f1, f2, h1, h2, h3, h4⟩ := h
  exact ⟨q, f1, f2, h1, List.mem_append_left _ h2, h3.app, h4.app⟩
abbrev sr_xw (cI cM : ClassId) (ax am ai ar aq : Nat) (fs : List Value) (fm : Nat → Option Nat) (li ri sp : Nat → Int32) (pl : va_W) : va_W := (ax, .inr (0, fs)) :: (am, .inl (cM, 2000, .inr (.inr (.inr (.inr fm))))) :: (ai, .inl (cI, 2001, .inl li)) :: (ar, .inl (cI, 2001, .inl ri)) :: (aq, .inl (cI, 2001, .inl sp)) :: pl
abbrev sr_xf (am ai ar aq : Nat) (ct ac : Int32) (sf sl : Nat) (dn : Int32) : List Value := [.ref am, .ref ai, .ref ar, .ref aq, .int ct, .int ac, .ref sf, .ref sl, .int dn]
def sr_XI (g : sr_Sg) (sf sl : Nat) (fm : Nat → Option Nat) (li ri sp : Nat → Int32) (dn : Int32) (pl : va_W) : Prop :=
  sr_stp pl sf g.2.2.1 ∧ sr_stp pl sl g.2.2.2.1 ∧ (∀ i, i < g.1 → sr_mvA pl (fm i) (g.2.2.2.2 i)) ∧ (∀ k, 0 < k → k < g.1 → li k = nI (sr_cor (g.2.2.2.2 (k - 1)) (g.2.2.2.2 k))) ∧ (∀ k, k = 0 ∨ k < g.1 → ri k = nI (sr_ris g.2.1 g.2.2.2.2 k)) ∧ (dn = 0 ∨ (dn = 1 ∧ ∀ k, k ≤ g.1 → sp k = nI (sr_spd g k)))
/-- the class's object at ax holds the state g -/
def sr_XR (cI cM : ClassId) (ax : Nat) (g : sr_Sg) (w : va_W) : Prop := ∃ (am ai ar aq sf sl : Nat) (fm : Nat → Option Nat) (li ri sp : Nat → Int32) (dn : Int32) (pl : va_W), w = sr_xw cI cM ax am ai ar aq (sr_xf am ai ar aq (nI g.1) (nI g.2.1) sf sl dn) fm li ri sp pl ∧ sr_XI g sf sl fm li ri sp dn pl
/-- and its speeds are worked out -/
def sr_X1 (cI cM : ClassId) (ax : Nat) (g : sr_Sg) (w : va_W) : Prop := ∃ (am ai ar aq sf sl : Nat) (fm : Nat → Option Nat) (li ri sp : Nat → Int32) (pl : va_W), w = sr_xw cI cM ax am ai ar aq (sr_xf am ai ar aq (nI g.1) (nI g.2.1) sf sl 1) fm li ri sp pl ∧ sr_XI g sf sl fm li ri sp 1 pl ∧ ∀ k, k ≤ g.1 → sp k = nI (sr_spd g k)
theorem sr_X1.r {cI cM : ClassId} {ax : Nat} {g : sr_Sg} {w : va_W} (h : sr_X1 cI cM ax g w) : sr_XR cI cM ax g w := by
  obtain ⟨am, ai, ar, aq, sf, sl, fm, li, ri, sp, pl, h1, h2, -⟩ := h
  exact ⟨am, ai, ar, aq, sf, sl, fm, li, ri, sp, 1, pl, h1, h2⟩
theorem sr_minus (x : Int32) : x - nI 1 = x + (-1) := by rw [Int32.sub_eq_add_neg]; rfl
abbrev wsX0_back : List Cond := ws_ yX0_back cX0_back 2 (some .int)
abbrev wsX0_acceleration : List Cond := ws_ yX0_acceleration cX0_acceleration 3 (some .boolean)
abbrev wsX0_fall : List Cond := ws_ yX0_fall cX0_fall 2 none
abbrev wsX0_speed : List Cond := ws_ yX0_speed cX0_speed 2 (some .int)
abbrev wsX0_sum : List Cond := ws_ yX0_sum cX0_sum 4 (some .long)
abbrev wsX0_below : List Cond := ws_ yX0_below cX0_below 3 (some .int)
set_option maxHeartbeats 4000000 in
set_option maxRecDepth 100000 in
/-- back(n) -/
theorem sr_X0_back (l : Launch) (D : va_G) (cI cB cM : ClassId) (ax sz : Nat) (g : sr_Sg) (hg : sr_OK g) (w : va_W) (hw : sr_XR cI cM ax g w) (hD0 : va_D (fun _ => True) w) (n : Int32) : sr_CtI l D cI cB cM yX0_back wsX0_back ({ frames := 0, cells := 0, slots := 0, locals := 0 } : Room) [.ref ax, .int n] w sz (fun r u => ∃ g', sr_pBack g n r g' ∧ sr_XR cI cM ax g' u) 0 0 := by
  obtain ⟨am, ai, ar, aq, sf, sl, fm, li, ri, sp, dn, pl, rfl, i1, i2, i3, i4, i5, i6⟩ := hw
  refine Met.ofW (cc := cX0_back) (maxL := 2) (ret := (some .int)) (by decide) rfl ?_
  intro p e s m args below meth c s₁ B hml hv
  obtain ⟨rfl, hKK, hsz, hP⟩ := hv
  have hx := B.exec
  have hb := B.bytes
  have hr := B.returns
  have hts := atoms_spec (ws := wsX0_back) B.pre
  have hts : ∀ w ∈ lw_all, w.before _ s = true := fun w h => hts w (List.mem_cons_of_mem _ h)
  have hown : s.vm.findClass RX0 = some m.cls := findClass_of_methodNamed B.named
  have hlocks := B.notSynchronized
  subst hsz
  have hD := hD0.self (sz := s.heap.size)
  generalize hAe : va_A ((ax, .inr (0, [.ref am, .ref ai, .ref ar, .ref aq, .int (nI g.1), .int (nI g.2.1), .ref sf, .ref sl, .int dn])) :: (am, .inl (cM, 2000, .inr (.inr (.inr (.inr fm))))) :: (ai, .inl (cI, 2001, .inl li)) :: (ar, .inl (cI, 2001, .inl ri)) :: (aq, .inl (cI, 2001, .inl sp)) :: pl) s.heap.size = A at hD ⊢
  have hA : ∀ q : Nat, s.heap.size ≤ q → A q := fun q h => by rw [← hAe]; exact Or.inr h
  have hS : va_S A s.heap s.heap [] := va_S.rf
  have hP : va_P D vwCl ((ax, .inr (0, [.ref am, .ref ai, .ref ar, .ref aq, .int (nI g.1), .int (nI g.2.1), .ref sf, .ref sl, .int dn])) :: (am, .inl (cM, 2000, .inr (.inr (.inr (.inr fm))))) :: (ai, .inl (cI, 2001, .inl li)) :: (ar, .inl (cI, 2001, .inl ri)) :: (aq, .inl (cI, 2001, .inl sp)) :: pl) s.heap := hP
  have hl := lv_entry ([.ref ax, .int n]) (n := 2) (Nat.le_of_ble_eq_true rfl)
  rw [lg_entry_eq]
  generalize (lg_sl ([.ref ax, .int n]) ++ List.replicate (2 - (lg_sl ([.ref ax, .int n])).length) Slot.unset).toArray = ls at hl ⊢
  have hl : lv_has ls 2 [(0, .ref ax), (1, .int n)] := hl
  refine lv_iload_n hx hb dX0_back_0 rfl (lv_at hl 1 rfl) ?_
  refine lv_if_lt (tgt := 12) hx hb dX0_back_1 (by decide) (fun c1 => ?_) (fun c1 => ?_)
  · refine lv_iconst (v := (-1)) hx hb dX0_back_12 (by decide +kernel) ?_
    exact W.iret hx hb hr (fun t ht hW => ⟨⟨_, _, rfl, ⟨g, Or.inr ⟨fun h => h.1 c1, rfl, rfl⟩, ⟨am, ai, ar, aq, sf, sl, fm, li, ri, sp, dn, pl, rfl, i1, i2, i3, i4, i5, i6⟩⟩, by rw [ht]; exact hP, hD⟩, hS.F ht⟩) hS.2.2 dX0_back_13
  refine lv_iload_n hx hb dX0_back_4 rfl (lv_at hl 1 rfl) ?_
  refine lv_aload_n hx hb dX0_back_5 rfl (lv_at hl 0 rfl) ?_
  refine va_get (D := D) (ci := 0) (v := .int (nI g.1)) (C := RX0) (T := TX0) (N := 9) hx hb hts in_X0 hown hKK.1 hP 0 rfl rfl 4 (by decide) (hts _ q47) (fun _ h9 => h9) rfl dX0_back_6 ?_
  refine lv_icmp_le (tgt := 14) hx hb dX0_back_9 (by decide) (fun c2 => ?_) (fun c2 => ?_)
  · obtain ⟨j, hj, rfl⟩ := nI_of c1
    have hg1 := hg.1
    have hjg : j ≤ g.1 := (nI_leI hj (by omega)).mp c2
    have hgb : sr_sBack g (nI j) = (g.1 - j, g.2.1, g.2.2.1, g.2.2.2.1, g.2.2.2.2) := by unfold sr_sBack; rw [nI_clamp hj]
    refine lv_aload_n hx hb dX0_back_14 rfl (lv_at hl 0 rfl) ?_
    refine lv_dup hx hb dX0_back_15 rfl ?_
    refine va_get (D := D) (ci := 0) (v := .int (nI g.1)) (C := RX0) (T := TX0) (N := 9) hx hb hts in_X0 hown hKK.1 hP 0 rfl rfl 4 (by decide) (hts _ q47) (fun _ h9 => h9) rfl dX0_back_16 ?_
    refine lv_iload_n hx hb dX0_back_19 rfl (lv_at hl 1 rfl) ?_
    refine lv_isub hx hb dX0_back_20 ?_
    refine sr_ti (y := (nI (g.1 - j))) (pk_sub hjg) ?_
    refine va_put (D := D) (ci := 0) (v := .int (nI (g.1 - j))) (ty := .int) (C := RX0) (T := TX0) (N := 9) hx hb hts in_X0 tyX0 tyX0_ok nmX0 hown hKK.1 hP hD hS 0 rfl rfl 4 (by decide) (hts _ q47) (fun _ h9 => h9) rfl (by decide +kernel) rfl rfl (Nat.le_of_ble_eq_true rfl) dX0_back_21 (fun H locs hP hD hS => ?_)
    have hP : va_P D vwCl ((ax, .inr (0, [.ref am, .ref ai, .ref ar, .ref aq, .int (nI (g.1 - j)), .int (nI g.2.1), .ref sf, .ref sl, .int dn])) :: (am, .inl (cM, 2000, .inr (.inr (.inr (.inr fm))))) :: (ai, .inl (cI, 2001, .inl li)) :: (ar, .inl (cI, 2001, .inl ri)) :: (aq, .inl (cI, 2001, .inl sp)) :: pl) H := hP
    have hD : va_D A ((ax, .inr (0, [.ref am, .ref ai, .ref ar, .ref aq, .int (nI (g.1 - j)), .int (nI g.2.1), .ref sf, .ref sl, .int dn])) :: (am, .inl (cM, 2000, .inr (.inr (.inr (.inr fm))))) :: (ai, .inl (cI, 2001, .inl li)) :: (ar, .inl (cI, 2001, .inl ri)) :: (aq, .inl (cI, 2001, .inl sp)) :: pl) := hD
    refine lv_aload_n hx hb dX0_back_24 rfl (lv_at hl 0 rfl) ?_
    refine lv_iconst (v := (nI 0)) hx hb dX0_back_25 (by decide +kernel) ?_
    refine va_put (D := D) (ci := 0) (v := .int (nI 0)) (ty := .boolean) (C := RX0) (T := TX0) (N := 9) hx hb hts in_X0 tyX0 tyX0_ok nmX0 hown hKK.1 hP hD hS 0 rfl rfl 8 (by decide) (hts _ q51) (fun _ h9 => h9) rfl (by decide +kernel) rfl rfl (Nat.le_of_ble_eq_true rfl) dX0_back_26 (fun H locs hP hD hS => ?_)
    have hP : va_P D vwCl ((ax, .inr (0, [.ref am, .ref ai, .ref ar, .ref aq, .int (nI (g.1 - j)), .int (nI g.2.1), .ref sf, .ref sl, .int (nI 0)])) :: (am, .inl (cM, 2000, .inr (.inr (.inr (.inr fm))))) :: (ai, .inl (cI, 2001, .inl li)) :: (ar, .inl (cI, 2001, .inl ri)) :: (aq, .inl (cI, 2001, .inl sp)) :: pl) H := hP
    have hD : va_D A ((ax, .inr (0, [.ref am, .ref ai, .ref ar, .ref aq, .int (nI (g.1 - j)), .int (nI g.2.1), .ref sf, .ref sl, .int (nI 0)])) :: (am, .inl (cM, 2000, .inr (.inr (.inr (.inr fm))))) :: (ai, .inl (cI, 2001, .inl li)) :: (ar, .inl (cI, 2001, .inl ri)) :: (aq, .inl (cI, 2001, .inl sp)) :: pl) := hD
    refine lv_aload_n hx hb dX0_back_29 rfl (lv_at hl 0 rfl) ?_
    refine va_get (D := D) (ci := 0) (v := .int (nI (g.1 - j))) (C := RX0) (T := TX0) (N := 9) hx hb hts in_X0 hown hKK.1 hP 0 rfl rfl 4 (by decide) (hts _ q47) (fun _ h9 => h9) rfl dX0_back_30 ?_
    exact W.iret hx hb hr (fun t ht hW => ⟨⟨_, _, rfl, ⟨(g.1 - j, g.2.1, g.2.2.1, g.2.2.2.1, g.2.2.2.2), Or.inl ⟨⟨c1, c2⟩, by rw [nI_clamp hj], hgb.symm⟩, am, ai, ar, aq, sf, sl, fm, li, ri, sp, nI 0, pl, rfl, i1, i2, fun i hi => i3 i (Nat.lt_of_lt_of_le hi (Nat.sub_le _ _)), fun k h0 hk => i4 k h0 (Nat.lt_of_lt_of_le hk (Nat.sub_le _ _)), fun k hk => i5 k (hk.imp id (fun h => Nat.lt_of_lt_of_le h (Nat.sub_le _ _))), Or.inl rfl⟩, by rw [ht]; exact hP, hD⟩, hS.F ht⟩) hS.2.2 dX0_back_33
  · refine lv_iconst (v := (-1)) hx hb dX0_back_12 (by decide +kernel) ?_
    exact W.iret hx hb hr (fun t ht hW => ⟨⟨_, _, rfl, ⟨g, Or.inr ⟨fun h => c2 h.2, rfl, rfl⟩, ⟨am, ai, ar, aq, sf, sl, fm, li, ri, sp, dn, pl, rfl, i1, i2, i3, i4, i5, i6⟩⟩, by rw [ht]; exact hP, hD⟩, hS.F ht⟩) hS.2.2 dX0_back_13
set_option maxHeartbeats 4000000 in
set_option maxRecDepth 100000 in
/-- acceleration(a) -/
theorem sr_X0_acceleration (l : Launch) (D : va_G) (cI cB cM : ClassId) (ax sz : Nat) (g : sr_Sg) (hg : sr_OK g) (w : va_W) (hw : sr_XR cI cM ax g w) (hD0 : va_D (fun _ => True) w) (a : Int32) : sr_CtI l D cI cB cM yX0_acceleration wsX0_acceleration ({ frames := 2, cells := 0, slots := 0, locals := 48 } : Room) [.ref ax, .int a] w sz (fun r u => ∃ g', sr_pAcc g a r g' ∧ sr_XR cI cM ax g' u) 0 0 := by
  obtain ⟨am, ai, ar, aq, sf, sl, fm, li, ri, sp, dn, pl, rfl, i1, i2, i3, i4, i5, i6⟩ := hw
  refine Met.ofW (cc := cX0_acceleration) (maxL := 3) (ret := (some .boolean)) (by decide) rfl ?_
  intro p e s m args below meth c s₁ B hml hv
  obtain ⟨rfl, hKK, hsz, hP⟩ := hv
  have hx := B.exec
  have hb := B.bytes
  have hr := B.returns
  have hts := atoms_spec (ws := wsX0_acceleration) B.pre
  have hts : ∀ w ∈ lw_all, w.before _ s = true := fun w h => hts w (List.mem_cons_of_mem _ h)
  have hown : s.vm.findClass RX0 = some m.cls := findClass_of_methodNamed B.named
  have hlocks := B.notSynchronized
  subst hsz
  have hD := hD0.self (sz := s.heap.size)
  generalize hAe : va_A ((ax, .inr (0, [.ref am, .ref ai, .ref ar, .ref aq, .int (nI g.1), .int (nI g.2.1), .ref sf, .ref sl, .int dn])) :: (am, .inl (cM, 2000, .inr (.inr (.inr (.inr fm))))) :: (ai, .inl (cI, 2001, .inl li)) :: (ar, .inl (cI, 2001, .inl ri)) :: (aq, .inl (cI, 2001, .inl sp)) :: pl) s.heap.size = A at hD ⊢
  have hA : ∀ q : Nat, s.heap.size ≤ q → A q := fun q h => by rw [← hAe]; exact Or.inr h
  have hS : va_S A s.heap s.heap [] := va_S.rf
  have hP : va_P D vwCl ((ax, .inr (0, [.ref am, .ref ai, .ref ar, .ref aq, .int (nI g.1), .int (nI g.2.1), .ref sf, .ref sl, .int dn])) :: (am, .inl (cM, 2000, .inr (.inr (.inr (.inr fm))))) :: (ai, .inl (cI, 2001, .inl li)) :: (ar, .inl (cI, 2001, .inl ri)) :: (aq, .inl (cI, 2001, .inl sp)) :: pl) s.heap := hP
  have hl := lv_entry ([.ref ax, .int a]) (n := 3) (Nat.le_of_ble_eq_true rfl)
  rw [lg_entry_eq]
  generalize (lg_sl ([.ref ax, .int a]) ++ List.replicate (3 - (lg_sl ([.ref ax, .int a])).length) Slot.unset).toArray = ls at hl ⊢
  have hl : lv_has ls 3 [(0, .ref ax), (1, .int a)] := hl
  refine lv_iload_n hx hb dX0_acceleration_0 rfl (lv_at hl 1 rfl) ?_
  refine lv_iconst (v := (nI 1)) hx hb dX0_acceleration_1 (by decide +kernel) ?_
  refine lv_icmp_lt (tgt := 12) hx hb dX0_acceleration_2 (by decide) (fun c1 => ?_) (fun c1 => ?_)
  · refine lv_iconst (v := (nI 0)) hx hb dX0_acceleration_12 (by decide +kernel) ?_
    exact W.zret hx hb hr rfl (fun t ht hW => ⟨⟨_, _, rfl, ⟨g, Or.inr ⟨fun h => h.1 c1, rfl, rfl⟩, ⟨am, ai, ar, aq, sf, sl, fm, li, ri, sp, dn, pl, rfl, i1, i2, i3, i4, i5, i6⟩⟩, by rw [ht]; exact hP, hD⟩, hS.F ht⟩) hS.2.2 dX0_acceleration_13
  refine lv_iload_n hx hb dX0_acceleration_5 rfl (lv_at hl 1 rfl) ?_
  refine lv_sipush (v := (nI 10000)) hx hb dX0_acceleration_6 (by decide +kernel) ?_
  refine lv_icmp_le (tgt := 14) hx hb dX0_acceleration_9 (by decide) (fun c2 => ?_) (fun c2 => ?_)
  · have hok : sr_aok a := ⟨c1, c2⟩
    obtain ⟨j, hj⟩ : ∃ j : Nat, j = a.toNatClampNeg := ⟨_, rfl⟩
    have hnum := sr_aok_num hok
    rw [← hj] at hnum
    obtain ⟨ea, ha1, ha2⟩ := hnum
    have hg1 := hg.1
    have hgm := hg.2.2.2.2.2
    have hgb : sr_sAcc g a = (g.1, j, g.2.2.1, g.2.2.2.1, g.2.2.2.2) := by unfold sr_sAcc; rw [hj]
    refine lv_aload_n hx hb dX0_acceleration_14 rfl (lv_at hl 0 rfl) ?_
    refine lv_iload_n hx hb dX0_acceleration_15 rfl (lv_at hl 1 rfl) ?_
    refine sr_ti (y := (nI j)) (ea) ?_
    refine va_put (D := D) (ci := 0) (v := .int (nI j)) (ty := .int) (C := RX0) (T := TX0) (N := 9) hx hb hts in_X0 tyX0 tyX0_ok nmX0 hown hKK.1 hP hD hS 0 rfl rfl 5 (by decide) (hts _ q48) (fun _ h9 => h9) rfl (by decide +kernel) rfl rfl (Nat.le_of_ble_eq_true rfl) dX0_acceleration_16 (fun H locs hP hD hS => ?_)
    have hP : va_P D vwCl ((ax, .inr (0, [.ref am, .ref ai, .ref ar, .ref aq, .int (nI g.1), .int (nI j), .ref sf, .ref sl, .int dn])) :: (am, .inl (cM, 2000, .inr (.inr (.inr (.inr fm))))) :: (ai, .inl (cI, 2001, .inl li)) :: (ar, .inl (cI, 2001, .inl ri)) :: (aq, .inl (cI, 2001, .inl sp)) :: pl) H := hP
    have hD : va_D A ((ax, .inr (0, [.ref am, .ref ai, .ref ar, .ref aq, .int (nI g.1), .int (nI j), .ref sf, .ref sl, .int dn])) :: (am, .inl (cM, 2000, .inr (.inr (.inr (.inr fm))))) :: (ai, .inl (cI, 2001, .inl li)) :: (ar, .inl (cI, 2001, .inl ri)) :: (aq, .inl (cI, 2001, .inl sp)) :: pl) := hD
    refine lv_iconst (v := (nI 1)) hx hb dX0_acceleration_19 (by decide +kernel) ?_
    refine lv_istore_n (lv' := [(2, .int (nI 1)), (0, .ref ax), (1, .int a)]) hx hb dX0_acceleration_20 rfl hl (by decide) rfl (fun ls hl => ?_)
    have loop : ∀ (n k : Nat) (ri : Nat → Int32) (H : Heap) (locs : List Loc) (ls : Array Slot), 1 ≤ k → k ≤ g.1 + 1 → g.1 + 2 ≤ k + n → (∀ i, i < k → ri i = nI (sr_ris j g.2.2.2.2 i)) → va_P D vwCl ((ax, .inr (0, [.ref am, .ref ai, .ref ar, .ref aq, .int (nI g.1), .int (nI j), .ref sf, .ref sl, .int dn])) :: (am, .inl (cM, 2000, .inr (.inr (.inr (.inr fm))))) :: (ai, .inl (cI, 2001, .inl li)) :: (ar, .inl (cI, 2001, .inl ri)) :: (aq, .inl (cI, 2001, .inl sp)) :: pl) H → va_D A ((ax, .inr (0, [.ref am, .ref ai, .ref ar, .ref aq, .int (nI g.1), .int (nI j), .ref sf, .ref sl, .int dn])) :: (am, .inl (cM, 2000, .inr (.inr (.inr (.inr fm))))) :: (ai, .inl (cI, 2001, .inl li)) :: (ar, .inl (cI, 2001, .inl ri)) :: (aq, .inl (cI, 2001, .inl sp)) :: pl) → va_S A s.heap H locs → lv_has ls 3 [(2, .int (nI k)), (0, .ref ax)] → W p l e (headSpec wsX0_acceleration ({ frames := 2, cells := 0, slots := 0, locals := 48 } : Room)).room s m ([.ref ax, .int a] : List Value).toArray below meth c H locs 0 0 (MQ below (va_Qi (fun r u => ∃ g', sr_pAcc g a r g' ∧ sr_XR cI cM ax g' u) (sr_Bw D A) A) ([.ref ax, .int a] : List Value).toArray s 0 0 A) (F0 m 21 ls []) := by
      intro n
      induction n with
      | zero => intro k ri H locs ls h1 h2 h3; exact absurd h3 (by omega)
      | succ n ih =>
        intro k ri H locs ls h1 h2 h3 hri hP hD hS hl
        refine lv_iload_n hx hb dX0_acceleration_21 rfl (lv_at hl 0 rfl) ?_
        refine lv_aload_n hx hb dX0_acceleration_22 rfl (lv_at hl 1 rfl) ?_
        refine va_get (D := D) (ci := 0) (v := .int (nI g.1)) (C := RX0) (T := TX0) (N := 9) hx hb hts in_X0 hown hKK.1 hP 0 rfl rfl 4 (by decide) (hts _ q47) (fun _ h9 => h9) rfl dX0_acceleration_23 ?_
        refine lv_icmp_ge (tgt := 73) hx hb dX0_acceleration_26 (by decide) (fun c3 => ?_) (fun c3 => ?_)
        · have hk : g.1 ≤ k := (nI_leI (by omega) (by omega)).mp c3
          refine lv_aload_n hx hb dX0_acceleration_73 rfl (lv_at hl 1 rfl) ?_
          refine lv_iconst (v := (nI 0)) hx hb dX0_acceleration_74 (by decide +kernel) ?_
          refine va_put (D := D) (ci := 0) (v := .int (nI 0)) (ty := .boolean) (C := RX0) (T := TX0) (N := 9) hx hb hts in_X0 tyX0 tyX0_ok nmX0 hown hKK.1 hP hD hS 0 rfl rfl 8 (by decide) (hts _ q51) (fun _ h9 => h9) rfl (by decide +kernel) rfl rfl (Nat.le_of_ble_eq_true rfl) dX0_acceleration_75 (fun H locs hP hD hS => ?_)
          have hP : va_P D vwCl ((ax, .inr (0, [.ref am, .ref ai, .ref ar, .ref aq, .int (nI g.1), .int (nI j), .ref sf, .ref sl, .int (nI 0)])) :: (am, .inl (cM, 2000, .inr (.inr (.inr (.inr fm))))) :: (ai, .inl (cI, 2001, .inl li)) :: (ar, .inl (cI, 2001, .inl ri)) :: (aq, .inl (cI, 2001, .inl sp)) :: pl) H := hP
          have hD : va_D A ((ax, .inr (0, [.ref am, .ref ai, .ref ar, .ref aq, .int (nI g.1), .int (nI j), .ref sf, .ref sl, .int (nI 0)])) :: (am, .inl (cM, 2000, .inr (.inr (.inr (.inr fm))))) :: (ai, .inl (cI, 2001, .inl li)) :: (ar, .inl (cI, 2001, .inl ri)) :: (aq, .inl (cI, 2001, .inl sp)) :: pl) := hD
          refine lv_iconst (v := (nI 1)) hx hb dX0_acceleration_78 (by decide +kernel) ?_
          exact W.zret hx hb hr rfl (fun t ht hW => ⟨⟨_, _, rfl, ⟨(g.1, j, g.2.2.1, g.2.2.2.1, g.2.2.2.2), Or.inl ⟨hok, rfl, hgb.symm⟩, am, ai, ar, aq, sf, sl, fm, li, ri, sp, nI 0, pl, rfl, i1, i2, i3, i4, fun i hi => hri i (by rcases hi with q | q <;> omega), Or.inl rfl⟩, by rw [ht]; exact hP, hD⟩, hS.F ht⟩) hS.2.2 dX0_acceleration_79
        · have hk : k < g.1 := Nat.lt_of_not_le (fun h => c3 (nI_le h (by omega)))
          have hk31 : k < 2 ^ 31 := by omega
          have hpred : nI k - nI 1 = nI (k - 1) := pk_sub h1
          obtain ⟨q, f1, f2, e1, e2, e3, e4⟩ := i3 (k - 1) (by omega)
          have hin1 : vp_in (nI k) 2001 := vp_in_nI (by omega) (by omega)
          have hin2 : vp_in (nI (k - 1)) 2001 := vp_in_nI (by omega) (by omega)
          have hin3 : vp_in (nI (k - 1)) 2000 := vp_in_nI (by omega) (by omega)
          have hPx := hP.sub (ws' := [(ax, .inr (0, [.ref am, .ref ai, .ref ar, .ref aq, .int (nI g.1), .int (nI j), .ref sf, .ref sl, .int dn]))]) [0] rfl
          have hPq := sr_P1 hP (List.mem_cons_of_mem _ (List.mem_cons_of_mem _ (List.mem_cons_of_mem _ (List.mem_cons_of_mem _ (List.mem_cons_of_mem _ e2)))))
          have hb1 := sr_ris_le (acc := j) hgm (k - 1) (by omega)
          have hb2 := hgm (k - 1) (by omega)
          have hc2 := sr_cor_le hb2 (hgm k hk)
          have hr2 := sr_re_lt ha2 hb1 hb2.2.1
          refine lv_aload_n hx hb dX0_acceleration_29 rfl (lv_at hl 1 rfl) ?_
          refine va_get (D := D) (ci := 0) (v := .ref ar) (C := RX0) (T := TX0) (N := 9) hx hb hts in_X0 hown hKK.1 hP 0 rfl rfl 2 (by decide) (hts _ q45) (fun _ h9 => h9) rfl dX0_acceleration_30 ?_
          refine lv_iload_n hx hb dX0_acceleration_33 rfl (lv_at hl 0 rfl) ?_
          refine lv_aload_n hx hb dX0_acceleration_34 rfl (lv_at hl 1 rfl) ?_
          refine va_get (D := D) (ci := 0) (v := .ref ai) (C := RX0) (T := TX0) (N := 9) hx hb hts in_X0 hown hKK.1 hP 0 rfl rfl 1 (by decide) (hts _ q44) (fun _ h9 => h9) rfl dX0_acceleration_35 ?_
          refine lv_iload_n hx hb dX0_acceleration_38 rfl (lv_at hl 0 rfl) ?_
          refine va_iald hx hb hKK.1 hP 2 0 rfl rfl (hin1) dX0_acceleration_39 ?_
          refine sr_ti (y := (nI (sr_cor (g.2.2.2.2 (k - 1)) (g.2.2.2.2 k)))) (by rw [nI_clamp hk31]; exact i4 k (by omega) hk) ?_
          refine lv_aload_n hx hb dX0_acceleration_40 rfl (lv_at hl 1 rfl) ?_
          refine lv_aload_n hx hb dX0_acceleration_41 rfl (lv_at hl 1 rfl) ?_
          refine va_get (D := D) (ci := 0) (v := .ref ar) (C := RX0) (T := TX0) (N := 9) hx hb hts in_X0 hown hKK.1 hP 0 rfl rfl 2 (by decide) (hts _ q45) (fun _ h9 => h9) rfl dX0_acceleration_42 ?_
          refine lv_iload_n hx hb dX0_acceleration_45 rfl (lv_at hl 0 rfl) ?_
          refine lv_iconst (v := (nI 1)) hx hb dX0_acceleration_46 (by decide +kernel) ?_
          refine lv_isub hx hb dX0_acceleration_47 ?_
          refine sr_ti (y := (nI (k - 1))) (hpred) ?_
          refine va_iald hx hb hKK.1 hP 3 0 rfl rfl (hin2) dX0_acceleration_48 ?_
          refine sr_ti (y := (nI (sr_ris j g.2.2.2.2 (k - 1)))) (by rw [nI_clamp (by omega)]; exact hri (k - 1) (by omega)) ?_
          refine lv_aload_n hx hb dX0_acceleration_49 rfl (lv_at hl 1 rfl) ?_
          refine va_get (D := D) (ci := 0) (v := .ref am) (C := RX0) (T := TX0) (N := 9) hx hb hts in_X0 hown hKK.1 hP 0 rfl rfl 0 (by decide) (hts _ q43) (fun _ h9 => h9) rfl dX0_acceleration_50 ?_
          refine lv_iload_n hx hb dX0_acceleration_53 rfl (lv_at hl 0 rfl) ?_
          refine lv_iconst (v := (nI 1)) hx hb dX0_acceleration_54 (by decide +kernel) ?_
          refine lv_isub hx hb dX0_acceleration_55 ?_
          refine sr_ti (y := (nI (k - 1))) (hpred) ?_
          refine va_aldq hx hb hKK.1 hP 1 2 rfl rfl (hin3) dX0_acceleration_56 ?_
          refine sr_tv (y := .ref q) (by rw [nI_clamp (by omega), e1]; rfl) ?_
          refine vp_callSi (W.runV (As := []) (rest := [.int (nI (sr_ris j g.2.2.2.2 (k - 1))), .ref ax, .int (nI (sr_cor (g.2.2.2.2 (k - 1)) (g.2.2.2.2 k))), .int (nI k), .ref ar]) ⟨hx, hb, hml, hown, hts⟩ (sr_X3_n l D cI cB cM q (nI (g.2.2.2.2 (k - 1)).1) (nI (g.2.2.2.2 (k - 1)).2.1) f1 f2) (cwV 0 hts (lw_V q131 q132 q133 q11 q134) rfl rfl rfl (by decide +kernel) ⟨Nat.le_of_ble_eq_true rfl, Nat.le_of_ble_eq_true rfl⟩) (sr_preV hKK hPq (va_recv hKK.1 hPq (ci := 3) (q0 := 0) rfl rfl)) rfl rfl hl.1 rfl (lv_room (Nat.le_of_ble_eq_true rfl)) dX0_acceleration_57 ⟨Nat.le_of_ble_eq_true rfl, Nat.le_of_ble_eq_true rfl⟩) (fun r1 hr1 => ?_)
          have hr1 := hr1.symm
          subst hr1
          refine vp_callSi (W.runV (As := [.int (nI (sr_ris j g.2.2.2.2 (k - 1))), .int (nI (g.2.2.2.2 (k - 1)).1)]) (rest := [.int (nI (sr_cor (g.2.2.2.2 (k - 1)) (g.2.2.2.2 k))), .int (nI k), .ref ar]) ⟨hx, hb, hml, hown, hts⟩ (sr_X0_reached l D cI cB cM ax (.ref am) (.ref ai) (.ref ar) (.ref aq) (.int (nI g.1)) (.ref sf) (.ref sl) (.int dn) j (sr_ris j g.2.2.2.2 (k - 1)) (g.2.2.2.2 (k - 1)).1 ha2 hb1 hb2.2.1) (cwV 2 hts (lw_V q135 q137 qs0 q7 q138) rfl rfl rfl (by decide +kernel) ⟨Nat.le_of_ble_eq_true rfl, Nat.le_of_ble_eq_true rfl⟩) (sr_preV hKK hPx (va_recv hKK.1 hPx (ci := 0) (q0 := 0) rfl rfl)) rfl rfl hl.1 rfl (lv_room (Nat.le_of_ble_eq_true rfl)) dX0_acceleration_60 ⟨Nat.le_of_ble_eq_true rfl, Nat.le_of_ble_eq_true rfl⟩) (fun r2 hr2 => ?_)
          have hr2 := hr2.symm
          subst hr2
          refine va_mmin hx hb (by rw [hml]; exact hl.1.symm) hown (hts _ q128) (hts _ q129) (hts _ q12) (hts _ q130) (Nat.le_of_ble_eq_true rfl) (Nat.le_of_ble_eq_true rfl) (Nat.le_of_ble_eq_true rfl) (Nat.le_of_ble_eq_true rfl) dX0_acceleration_63 ?_
          refine sr_ti (y := (nI (sr_ris j g.2.2.2.2 k))) (by obtain ⟨k0, rfl⟩ : ∃ k0, k = k0 + 1 := ⟨k - 1, by omega⟩; rw [sr_min (by omega) (by omega), sr_ris]; rfl) ?_
          refine va_iast hx hb hKK.1 hP hD hS 3 0 rfl rfl (hin1) dX0_acceleration_66 (fun H locs hP hD hS => ?_)
          rw [nI_clamp hk31] at hP hD
          have hP : va_P D vwCl ((ax, .inr (0, [.ref am, .ref ai, .ref ar, .ref aq, .int (nI g.1), .int (nI j), .ref sf, .ref sl, .int dn])) :: (am, .inl (cM, 2000, .inr (.inr (.inr (.inr fm))))) :: (ai, .inl (cI, 2001, .inl li)) :: (ar, .inl (cI, 2001, .inl (upd ri k (nI (sr_ris j g.2.2.2.2 k))))) :: (aq, .inl (cI, 2001, .inl sp)) :: pl) H := hP
          have hD : va_D A ((ax, .inr (0, [.ref am, .ref ai, .ref ar, .ref aq, .int (nI g.1), .int (nI j), .ref sf, .ref sl, .int dn])) :: (am, .inl (cM, 2000, .inr (.inr (.inr (.inr fm))))) :: (ai, .inl (cI, 2001, .inl li)) :: (ar, .inl (cI, 2001, .inl (upd ri k (nI (sr_ris j g.2.2.2.2 k))))) :: (aq, .inl (cI, 2001, .inl sp)) :: pl) := hD
          refine lv_iinc (v := (nI (k + 1))) (lv' := [(2, .int (nI (k + 1))), (0, .ref ax)]) hx hb dX0_acceleration_67 hl (k := 0) rfl (nI_1 k) (by decide) rfl (fun ls hl => ?_)
          refine lv_goto (tgt := 21) hx hb dX0_acceleration_70 (by decide) ?_
          refine ih (k + 1) _ H locs ls (by omega) (by omega) (by omega) (fun i hi => ?_) hP hD hS (lv_sub hl [0, 1] rfl)
          by_cases q1 : i = k
          · rw [q1, pk_us]
          · rw [pk_un q1]; exact hri i (by omega)
    exact loop (g.1 + 1) 1 ri H locs ls (by omega) (by omega) (by omega) (fun i hi => by rw [show i = 0 by omega, i5 0 (Or.inl rfl)]; rfl) hP hD hS (lv_sub hl [0, 1] rfl)
  · refine lv_iconst (v := (nI 0)) hx hb dX0_acceleration_12 (by decide +kernel) ?_
    exact W.zret hx hb hr rfl (fun t ht hW => ⟨⟨_, _, rfl, ⟨g, Or.inr ⟨fun h => c2 h.2, rfl, rfl⟩, ⟨am, ai, ar, aq, sf, sl, fm, li, ri, sp, dn, pl, rfl, i1, i2, i3, i4, i5, i6⟩⟩, by rw [ht]; exact hP, hD⟩, hS.F ht⟩) hS.2.2 dX0_acceleration_13
set_option maxHeartbeats 4000000 in
set_option maxRecDepth 100000 in
/-- fall(): the speeds are worked out -/
theorem sr_X0_fall (l : Launch) (D : va_G) (cI cB cM : ClassId) (ax sz : Nat) (g : sr_Sg) (hg : sr_OK g) (w : va_W) (hw : sr_XR cI cM ax g w) (hD0 : va_D (fun _ => True) w) : sr_CtV l D cI cB cM yX0_fall wsX0_fall ({ frames := 2, cells := 0, slots := 0, locals := 48 } : Room) [.ref ax] w sz (fun u => sr_X1 cI cM ax g u) 0 0 := by
  obtain ⟨am, ai, ar, aq, sf, sl, fm, li, ri, sp, dn, pl, rfl, i1, i2, i3, i4, i5, i6⟩ := hw
  refine Met.ofW (cc := cX0_fall) (maxL := 2) (ret := none) (by decide) rfl ?_
  intro p e s m args below meth c s₁ B hml hv
  obtain ⟨rfl, hKK, hsz, hP⟩ := hv
  have hx := B.exec
  have hb := B.bytes
  have hr := B.returns
  have hts := atoms_spec (ws := wsX0_fall) B.pre
  have hts : ∀ w ∈ lw_all, w.before _ s = true := fun w h => hts w (List.mem_cons_of_mem _ h)
  have hown : s.vm.findClass RX0 = some m.cls := findClass_of_methodNamed B.named
  have hlocks := B.notSynchronized
  subst hsz
  have hD := hD0.self (sz := s.heap.size)
  generalize hAe : va_A ((ax, .inr (0, [.ref am, .ref ai, .ref ar, .ref aq, .int (nI g.1), .int (nI g.2.1), .ref sf, .ref sl, .int dn])) :: (am, .inl (cM, 2000, .inr (.inr (.inr (.inr fm))))) :: (ai, .inl (cI, 2001, .inl li)) :: (ar, .inl (cI, 2001, .inl ri)) :: (aq, .inl (cI, 2001, .inl sp)) :: pl) s.heap.size = A at hD ⊢
  have hA : ∀ q : Nat, s.heap.size ≤ q → A q := fun q h => by rw [← hAe]; exact Or.inr h
  have hS : va_S A s.heap s.heap [] := va_S.rf
  have hP : va_P D vwCl ((ax, .inr (0, [.ref am, .ref ai, .ref ar, .ref aq, .int (nI g.1), .int (nI g.2.1), .ref sf, .ref sl, .int dn])) :: (am, .inl (cM, 2000, .inr (.inr (.inr (.inr fm))))) :: (ai, .inl (cI, 2001, .inl li)) :: (ar, .inl (cI, 2001, .inl ri)) :: (aq, .inl (cI, 2001, .inl sp)) :: pl) s.heap := hP
  have hl := lv_entry ([.ref ax]) (n := 2) (Nat.le_of_ble_eq_true rfl)
  rw [lg_entry_eq]
  generalize (lg_sl ([.ref ax]) ++ List.replicate (2 - (lg_sl ([.ref ax])).length) Slot.unset).toArray = ls at hl ⊢
  have hl : lv_has ls 2 [(0, .ref ax)] := hl
  refine lv_aload_n hx hb dX0_fall_0 rfl (lv_at hl 0 rfl) ?_
  refine va_get (D := D) (ci := 0) (v := .int dn) (C := RX0) (T := TX0) (N := 9) hx hb hts in_X0 hown hKK.1 hP 0 rfl rfl 8 (by decide) (hts _ q51) (fun _ h9 => h9) rfl dX0_fall_1 ?_
  rcases i6 with rfl | ⟨rfl, i6⟩
  · refine lv_if_eq (tgt := 8) hx hb dX0_fall_4 (by decide) (fun c_ => ?_) (fun c_ => absurd (rfl) c_)
    have hg1 := hg.1
    have hgm := hg.2.2.2.2.2
    have hga := hg.2.2.1
    refine lv_aload_n hx hb dX0_fall_8 rfl (lv_at hl 0 rfl) ?_
    refine va_get (D := D) (ci := 0) (v := .ref aq) (C := RX0) (T := TX0) (N := 9) hx hb hts in_X0 hown hKK.1 hP 0 rfl rfl 3 (by decide) (hts _ q46) (fun _ h9 => h9) rfl dX0_fall_9 ?_
    refine lv_aload_n hx hb dX0_fall_12 rfl (lv_at hl 0 rfl) ?_
    refine va_get (D := D) (ci := 0) (v := .int (nI g.1)) (C := RX0) (T := TX0) (N := 9) hx hb hts in_X0 hown hKK.1 hP 0 rfl rfl 4 (by decide) (hts _ q47) (fun _ h9 => h9) rfl dX0_fall_13 ?_
    refine lv_iconst (v := (nI 0)) hx hb dX0_fall_16 (by decide +kernel) ?_
    refine va_iast hx hb hKK.1 hP hD hS 4 0 rfl rfl (vp_in_nI (by omega) (by omega)) dX0_fall_17 (fun H locs hP hD hS => ?_)
    rw [nI_clamp (show g.1 < 2 ^ 31 by omega)] at hP hD
    have hP : va_P D vwCl ((ax, .inr (0, [.ref am, .ref ai, .ref ar, .ref aq, .int (nI g.1), .int (nI g.2.1), .ref sf, .ref sl, .int 0])) :: (am, .inl (cM, 2000, .inr (.inr (.inr (.inr fm))))) :: (ai, .inl (cI, 2001, .inl li)) :: (ar, .inl (cI, 2001, .inl ri)) :: (aq, .inl (cI, 2001, .inl (upd sp g.1 (nI 0)))) :: pl) H := hP
    have hD : va_D A ((ax, .inr (0, [.ref am, .ref ai, .ref ar, .ref aq, .int (nI g.1), .int (nI g.2.1), .ref sf, .ref sl, .int 0])) :: (am, .inl (cM, 2000, .inr (.inr (.inr (.inr fm))))) :: (ai, .inl (cI, 2001, .inl li)) :: (ar, .inl (cI, 2001, .inl ri)) :: (aq, .inl (cI, 2001, .inl (upd sp g.1 (nI 0)))) :: pl) := hD
    refine lv_aload_n hx hb dX0_fall_18 rfl (lv_at hl 0 rfl) ?_
    refine va_get (D := D) (ci := 0) (v := .int (nI g.1)) (C := RX0) (T := TX0) (N := 9) hx hb hts in_X0 hown hKK.1 hP 0 rfl rfl 4 (by decide) (hts _ q47) (fun _ h9 => h9) rfl dX0_fall_19 ?_
    refine lv_iconst (v := (nI 1)) hx hb dX0_fall_22 (by decide +kernel) ?_
    refine lv_isub hx hb dX0_fall_23 ?_
    refine sr_ti (y := (nI g.1 + (-1))) (sr_minus _) ?_
    refine lv_istore_n (lv' := [(1, .int (nI g.1 + (-1))), (0, .ref ax)]) hx hb dX0_fall_24 rfl hl (by decide) rfl (fun ls hl => ?_)
    have loop : ∀ (j : Nat) (sp : Nat → Int32) (H : Heap) (locs : List Loc) (ls : Array Slot), j ≤ g.1 → (∀ k, j ≤ k → k ≤ g.1 → sp k = nI (sr_spd g k)) → va_P D vwCl ((ax, .inr (0, [.ref am, .ref ai, .ref ar, .ref aq, .int (nI g.1), .int (nI g.2.1), .ref sf, .ref sl, .int 0])) :: (am, .inl (cM, 2000, .inr (.inr (.inr (.inr fm))))) :: (ai, .inl (cI, 2001, .inl li)) :: (ar, .inl (cI, 2001, .inl ri)) :: (aq, .inl (cI, 2001, .inl sp)) :: pl) H → va_D A ((ax, .inr (0, [.ref am, .ref ai, .ref ar, .ref aq, .int (nI g.1), .int (nI g.2.1), .ref sf, .ref sl, .int 0])) :: (am, .inl (cM, 2000, .inr (.inr (.inr (.inr fm))))) :: (ai, .inl (cI, 2001, .inl li)) :: (ar, .inl (cI, 2001, .inl ri)) :: (aq, .inl (cI, 2001, .inl sp)) :: pl) → va_S A s.heap H locs → lv_has ls 2 [(1, .int (nI j + (-1))), (0, .ref ax)] → W p l e (headSpec wsX0_fall ({ frames := 2, cells := 0, slots := 0, locals := 48 } : Room)).room s m ([.ref ax] : List Value).toArray below meth c H locs 0 0 (MQ below (va_Qv (fun u => sr_X1 cI cM ax g u) (sr_Bw D A) A) ([.ref ax] : List Value).toArray s 0 0 A) (F0 m 25 ls []) := by
      intro j
      induction j with
      | zero =>
        intro sp H locs ls hj hsp hP hD hS hl
        refine lv_iload_n hx hb dX0_fall_25 rfl (lv_at hl 0 rfl) ?_
        refine lv_if_lt (tgt := 79) hx hb dX0_fall_26 (by decide) (fun c_ => ?_) (fun c_ => absurd (by decide +kernel) c_)
        refine lv_aload_n hx hb dX0_fall_79 rfl (lv_at hl 1 rfl) ?_
        refine lv_iconst (v := (nI 1)) hx hb dX0_fall_80 (by decide +kernel) ?_
        refine va_put (D := D) (ci := 0) (v := .int (nI 1)) (ty := .boolean) (C := RX0) (T := TX0) (N := 9) hx hb hts in_X0 tyX0 tyX0_ok nmX0 hown hKK.1 hP hD hS 0 rfl rfl 8 (by decide) (hts _ q51) (fun _ h9 => h9) rfl (by decide +kernel) rfl rfl (Nat.le_of_ble_eq_true rfl) dX0_fall_81 (fun H locs hP hD hS => ?_)
        have hP : va_P D vwCl ((ax, .inr (0, [.ref am, .ref ai, .ref ar, .ref aq, .int (nI g.1), .int (nI g.2.1), .ref sf, .ref sl, .int (nI 1)])) :: (am, .inl (cM, 2000, .inr (.inr (.inr (.inr fm))))) :: (ai, .inl (cI, 2001, .inl li)) :: (ar, .inl (cI, 2001, .inl ri)) :: (aq, .inl (cI, 2001, .inl sp)) :: pl) H := hP
        have hD : va_D A ((ax, .inr (0, [.ref am, .ref ai, .ref ar, .ref aq, .int (nI g.1), .int (nI g.2.1), .ref sf, .ref sl, .int (nI 1)])) :: (am, .inl (cM, 2000, .inr (.inr (.inr (.inr fm))))) :: (ai, .inl (cI, 2001, .inl li)) :: (ar, .inl (cI, 2001, .inl ri)) :: (aq, .inl (cI, 2001, .inl sp)) :: pl) := hD
        have hsp' : ∀ k, k ≤ g.1 → sp k = nI (sr_spd g k) := fun k hk => hsp k (Nat.zero_le _) hk
        exact W.vret hx hb hr (fun t ht hW => ⟨⟨_, rfl, ⟨am, ai, ar, aq, sf, sl, fm, li, ri, sp, pl, rfl, ⟨i1, i2, i3, i4, i5, Or.inr ⟨rfl, hsp'⟩⟩, hsp'⟩, by rw [ht]; exact hP, hD⟩, hS.F ht⟩) hS.2.2 dX0_fall_84
      | succ b ih =>
        intro sp H locs ls hj hsp hP hD hS hl
        rw [pk_m1 b] at hl
        have hin1 : vp_in (nI b) 2001 := vp_in_nI (by omega) (by omega)
        have hin2 : vp_in (nI (b + 1)) 2001 := vp_in_nI (by omega) (by omega)
        have hin3 : vp_in (nI b) 2000 := vp_in_nI (by omega) (by omega)
        have hb31 : b < 2 ^ 31 := by omega
        have fin : W p l e (headSpec wsX0_fall ({ frames := 2, cells := 0, slots := 0, locals := 48 } : Room)).room s m ([.ref ax] : List Value).toArray below meth c H locs 0 0 (MQ below (va_Qv (fun u => sr_X1 cI cM ax g u) (sr_Bw D A) A) ([.ref ax] : List Value).toArray s 0 0 A) (F0 m 72 ls [.int (nI (sr_spd g b)), .int (nI b), .ref aq]) := by
          refine va_iast hx hb hKK.1 hP hD hS 4 0 rfl rfl (hin1) dX0_fall_72 (fun H locs hP hD hS => ?_)
          rw [nI_clamp hb31] at hP hD
          have hP : va_P D vwCl ((ax, .inr (0, [.ref am, .ref ai, .ref ar, .ref aq, .int (nI g.1), .int (nI g.2.1), .ref sf, .ref sl, .int 0])) :: (am, .inl (cM, 2000, .inr (.inr (.inr (.inr fm))))) :: (ai, .inl (cI, 2001, .inl li)) :: (ar, .inl (cI, 2001, .inl ri)) :: (aq, .inl (cI, 2001, .inl (upd sp b (nI (sr_spd g b))))) :: pl) H := hP
          have hD : va_D A ((ax, .inr (0, [.ref am, .ref ai, .ref ar, .ref aq, .int (nI g.1), .int (nI g.2.1), .ref sf, .ref sl, .int 0])) :: (am, .inl (cM, 2000, .inr (.inr (.inr (.inr fm))))) :: (ai, .inl (cI, 2001, .inl li)) :: (ar, .inl (cI, 2001, .inl ri)) :: (aq, .inl (cI, 2001, .inl (upd sp b (nI (sr_spd g b))))) :: pl) := hD
          refine lv_iinc (v := (nI b + (-1))) (lv' := [(1, .int (nI b + (-1))), (0, .ref ax)]) hx hb dX0_fall_73 hl (k := 0) rfl (rfl) (by decide) rfl (fun ls hl => ?_)
          refine lv_goto (tgt := 25) hx hb dX0_fall_76 (by decide) ?_
          refine ih _ H locs ls (by omega) (fun k h1 h2 => ?_) hP hD hS hl
          by_cases q1 : k = b
          · rw [q1, pk_us]
          · rw [pk_un q1]; exact hsp k (by omega) h2
        refine lv_iload_n hx hb dX0_fall_25 rfl (lv_at hl 0 rfl) ?_
        refine lv_if_lt (tgt := 79) hx hb dX0_fall_26 (by decide) (fun c_ => absurd c_ (nI_pos hb31)) (fun c_ => ?_)
        refine lv_aload_n hx hb dX0_fall_29 rfl (lv_at hl 1 rfl) ?_
        refine va_get (D := D) (ci := 0) (v := .ref aq) (C := RX0) (T := TX0) (N := 9) hx hb hts in_X0 hown hKK.1 hP 0 rfl rfl 3 (by decide) (hts _ q46) (fun _ h9 => h9) rfl dX0_fall_30 ?_
        refine lv_iload_n hx hb dX0_fall_33 rfl (lv_at hl 0 rfl) ?_
        refine lv_iload_n hx hb dX0_fall_34 rfl (lv_at hl 0 rfl) ?_
        refine lv_if_ne (tgt := 42) hx hb dX0_fall_35 (by decide) (fun c3 => ?_) (fun c3 => ?_)
        · have hb0 : 0 < b := Nat.pos_of_ne_zero (fun q => c3 (by rw [q]; rfl))
          have hbg : b < g.1 := by omega
          obtain ⟨q, f1, f2, e1, e2, e3, e4⟩ := i3 b hbg
          have hPx := hP.sub (ws' := [(ax, .inr (0, [.ref am, .ref ai, .ref ar, .ref aq, .int (nI g.1), .int (nI g.2.1), .ref sf, .ref sl, .int 0]))]) [0] rfl
          have hPq := sr_P1 hP (List.mem_cons_of_mem _ (List.mem_cons_of_mem _ (List.mem_cons_of_mem _ (List.mem_cons_of_mem _ (List.mem_cons_of_mem _ e2)))))
          have hb1 := sr_spd_le hg (show b + 1 ≤ g.1 by omega)
          have hb2 := hgm b hbg
          have hc2 := sr_ris_le (acc := g.2.1) hgm b hbg
          have hr2 := sr_re_lt hga hb1 hb2.2.1
          refine lv_aload_n hx hb dX0_fall_42 rfl (lv_at hl 1 rfl) ?_
          refine va_get (D := D) (ci := 0) (v := .ref ar) (C := RX0) (T := TX0) (N := 9) hx hb hts in_X0 hown hKK.1 hP 0 rfl rfl 2 (by decide) (hts _ q45) (fun _ h9 => h9) rfl dX0_fall_43 ?_
          refine lv_iload_n hx hb dX0_fall_46 rfl (lv_at hl 0 rfl) ?_
          refine va_iald hx hb hKK.1 hP 3 0 rfl rfl (hin1) dX0_fall_47 ?_
          refine sr_ti (y := (nI (sr_ris g.2.1 g.2.2.2.2 b))) (by rw [nI_clamp hb31]; exact i5 b (Or.inr hbg)) ?_
          refine lv_aload_n hx hb dX0_fall_48 rfl (lv_at hl 1 rfl) ?_
          refine lv_aload_n hx hb dX0_fall_49 rfl (lv_at hl 1 rfl) ?_
          refine va_get (D := D) (ci := 0) (v := .ref aq) (C := RX0) (T := TX0) (N := 9) hx hb hts in_X0 hown hKK.1 hP 0 rfl rfl 3 (by decide) (hts _ q46) (fun _ h9 => h9) rfl dX0_fall_50 ?_
          refine lv_iload_n hx hb dX0_fall_53 rfl (lv_at hl 0 rfl) ?_
          refine lv_iconst (v := (nI 1)) hx hb dX0_fall_54 (by decide +kernel) ?_
          refine lv_iadd hx hb dX0_fall_55 ?_
          refine sr_ti (y := (nI (b + 1))) (nI_1 b) ?_
          refine va_iald hx hb hKK.1 hP 4 0 rfl rfl (hin2) dX0_fall_56 ?_
          refine sr_ti (y := (nI (sr_spd g (b + 1)))) (by rw [nI_clamp (by omega)]; exact hsp (b + 1) (Nat.le_refl _) (by omega)) ?_
          refine lv_aload_n hx hb dX0_fall_57 rfl (lv_at hl 1 rfl) ?_
          refine va_get (D := D) (ci := 0) (v := .ref am) (C := RX0) (T := TX0) (N := 9) hx hb hts in_X0 hown hKK.1 hP 0 rfl rfl 0 (by decide) (hts _ q43) (fun _ h9 => h9) rfl dX0_fall_58 ?_
          refine lv_iload_n hx hb dX0_fall_61 rfl (lv_at hl 0 rfl) ?_
          refine va_aldq hx hb hKK.1 hP 1 2 rfl rfl (hin3) dX0_fall_62 ?_
          refine sr_tv (y := .ref q) (by rw [nI_clamp hb31, e1]; rfl) ?_
          refine vp_callSi (W.runV (As := []) (rest := [.int (nI (sr_spd g (b + 1))), .ref ax, .int (nI (sr_ris g.2.1 g.2.2.2.2 b)), .int (nI b), .ref aq]) ⟨hx, hb, hml, hown, hts⟩ (sr_X3_n l D cI cB cM q (nI (g.2.2.2.2 b).1) (nI (g.2.2.2.2 b).2.1) f1 f2) (cwV 0 hts (lw_V q131 q132 q133 q11 q134) rfl rfl rfl (by decide +kernel) ⟨Nat.le_of_ble_eq_true rfl, Nat.le_of_ble_eq_true rfl⟩) (sr_preV hKK hPq (va_recv hKK.1 hPq (ci := 3) (q0 := 0) rfl rfl)) rfl rfl hl.1 rfl (lv_room (Nat.le_of_ble_eq_true rfl)) dX0_fall_63 ⟨Nat.le_of_ble_eq_true rfl, Nat.le_of_ble_eq_true rfl⟩) (fun r1 hr1 => ?_)
          have hr1 := hr1.symm
          subst hr1
          refine vp_callSi (W.runV (As := [.int (nI (sr_spd g (b + 1))), .int (nI (g.2.2.2.2 b).1)]) (rest := [.int (nI (sr_ris g.2.1 g.2.2.2.2 b)), .int (nI b), .ref aq]) ⟨hx, hb, hml, hown, hts⟩ (sr_X0_reached l D cI cB cM ax (.ref am) (.ref ai) (.ref ar) (.ref aq) (.int (nI g.1)) (.ref sf) (.ref sl) (.int 0) g.2.1 (sr_spd g (b + 1)) (g.2.2.2.2 b).1 hga hb1 hb2.2.1) (cwV 2 hts (lw_V q135 q137 qs0 q7 q138) rfl rfl rfl (by decide +kernel) ⟨Nat.le_of_ble_eq_true rfl, Nat.le_of_ble_eq_true rfl⟩) (sr_preV hKK hPx (va_recv hKK.1 hPx (ci := 0) (q0 := 0) rfl rfl)) rfl rfl hl.1 rfl (lv_room (Nat.le_of_ble_eq_true rfl)) dX0_fall_66 ⟨Nat.le_of_ble_eq_true rfl, Nat.le_of_ble_eq_true rfl⟩) (fun r2 hr2 => ?_)
          have hr2 := hr2.symm
          subst hr2
          refine va_mmin hx hb (by rw [hml]; exact hl.1.symm) hown (hts _ q128) (hts _ q129) (hts _ q12) (hts _ q130) (Nat.le_of_ble_eq_true rfl) (Nat.le_of_ble_eq_true rfl) (Nat.le_of_ble_eq_true rfl) (Nat.le_of_ble_eq_true rfl) dX0_fall_69 ?_
          refine sr_ti (y := (nI (sr_spd g b))) (by rw [sr_min (by omega) (by omega), sr_spd_at g hb0 hbg]) ?_
          exact fin
        · have hb0 : b = 0 := (nI_eq hb31 (by decide)).mp c3
          refine lv_iconst (v := (nI 0)) hx hb dX0_fall_38 (by decide +kernel) ?_
          refine lv_goto (tgt := 72) hx hb dX0_fall_39 (by decide) ?_
          refine sr_ti (y := (nI (sr_spd g b))) (by rw [hb0, sr_spd_0]) ?_
          exact fin
    refine loop g.1 _ H locs ls (Nat.le_refl _) (fun k h1 h2 => ?_) hP hD hS hl
    rw [show k = g.1 by omega, pk_us, sr_spd_end]
  · refine lv_if_eq (tgt := 8) hx hb dX0_fall_4 (by decide) (fun c_ => absurd c_ (by decide)) (fun c_ => ?_)
    exact W.vret hx hb hr (fun t ht hW => ⟨⟨_, rfl, ⟨am, ai, ar, aq, sf, sl, fm, li, ri, sp, pl, rfl, ⟨i1, i2, i3, i4, i5, Or.inr ⟨rfl, i6⟩⟩, i6⟩, by rw [ht]; exact hP, hD⟩, hS.F ht⟩) hS.2.2 dX0_fall_7
set_option maxHeartbeats 4000000 in
set_option maxRecDepth 100000 in
/-- speed(k) -/
theorem sr_X0_speed (l : Launch) (D : va_G) (cI cB cM : ClassId) (ax sz : Nat) (g : sr_Sg) (hg : sr_OK g) (w : va_W) (hw : sr_XR cI cM ax g w) (hD0 : va_D (fun _ => True) w) (k : Int32) : sr_CtI l D cI cB cM yX0_speed wsX0_speed ({ frames := 3, cells := 0, slots := 0, locals := 69 } : Room) [.ref ax, .int k] w sz (fun r u => sr_pSpd g k r ∧ sr_XR cI cM ax g u) 0 0 := by
  obtain ⟨am, ai, ar, aq, sf, sl, fm, li, ri, sp, dn, pl, rfl, i1, i2, i3, i4, i5, i6⟩ := hw
  refine Met.ofW (cc := cX0_speed) (maxL := 2) (ret := (some .int)) (by decide) rfl ?_
  intro p e s m args below meth c s₁ B hml hv
  obtain ⟨rfl, hKK, hsz, hP⟩ := hv
  have hx := B.exec
  have hb := B.bytes
  have hr := B.returns
  have hts := atoms_spec (ws := wsX0_speed) B.pre
  have hts : ∀ w ∈ lw_all, w.before _ s = true := fun w h => hts w (List.mem_cons_of_mem _ h)
  have hown : s.vm.findClass RX0 = some m.cls := findClass_of_methodNamed B.named
  have hlocks := B.notSynchronized
  subst hsz
  have hD := hD0.self (sz := s.heap.size)
  generalize hAe : va_A ((ax, .inr (0, [.ref am, .ref ai, .ref ar, .ref aq, .int (nI g.1), .int (nI g.2.1), .ref sf, .ref sl, .int dn])) :: (am, .inl (cM, 2000, .inr (.inr (.inr (.inr fm))))) :: (ai, .inl (cI, 2001, .inl li)) :: (ar, .inl (cI, 2001, .inl ri)) :: (aq, .inl (cI, 2001, .inl sp)) :: pl) s.heap.size = A at hD ⊢
  have hA : ∀ q : Nat, s.heap.size ≤ q → A q := fun q h => by rw [← hAe]; exact Or.inr h
  have hS : va_S A s.heap s.heap [] := va_S.rf
  have hP : va_P D vwCl ((ax, .inr (0, [.ref am, .ref ai, .ref ar, .ref aq, .int (nI g.1), .int (nI g.2.1), .ref sf, .ref sl, .int dn])) :: (am, .inl (cM, 2000, .inr (.inr (.inr (.inr fm))))) :: (ai, .inl (cI, 2001, .inl li)) :: (ar, .inl (cI, 2001, .inl ri)) :: (aq, .inl (cI, 2001, .inl sp)) :: pl) s.heap := hP
  have hl := lv_entry ([.ref ax, .int k]) (n := 2) (Nat.le_of_ble_eq_true rfl)
  rw [lg_entry_eq]
  generalize (lg_sl ([.ref ax, .int k]) ++ List.replicate (2 - (lg_sl ([.ref ax, .int k])).length) Slot.unset).toArray = ls at hl ⊢
  have hl : lv_has ls 2 [(0, .ref ax), (1, .int k)] := hl
  have hPx := hP.sub (ws' := [(ax, .inr (0, [.ref am, .ref ai, .ref ar, .ref aq, .int (nI g.1), .int (nI g.2.1), .ref sf, .ref sl, .int dn]))]) [0] rfl
  refine lv_aload_n hx hb dX0_speed_0 rfl (lv_at hl 0 rfl) ?_
  refine lv_iload_n hx hb dX0_speed_1 rfl (lv_at hl 1 rfl) ?_
  refine vp_callSi (W.runV (As := [.int k]) (rest := []) ⟨hx, hb, hml, hown, hts⟩ (sr_X0_isCorner l D cI cB cM ax (.ref am) (.ref ai) (.ref ar) (.ref aq) (.int (nI g.2.1)) (.ref sf) (.ref sl) (.int dn) g.1 k) (cwV 1 hts (lw_V q155 q157 qs1 q7 q158) rfl rfl rfl (by decide +kernel) ⟨Nat.le_of_ble_eq_true rfl, Nat.le_of_ble_eq_true rfl⟩) (sr_preV hKK hPx (va_recv hKK.1 hPx (ci := 0) (q0 := 0) rfl rfl)) rfl rfl hl.1 rfl (lv_room (Nat.le_of_ble_eq_true rfl)) dX0_speed_2 ⟨Nat.le_of_ble_eq_true rfl, Nat.le_of_ble_eq_true rfl⟩) (fun r1 hr1 => ?_)
  rcases hr1 with ⟨rfl, hok⟩ | ⟨rfl, hno⟩
  · refine lv_if_ne (tgt := 10) hx hb dX0_speed_5 (by decide) (fun c_ => ?_) (fun c_ => absurd c_ (by decide))
    have hg1 := hg.1
    refine lv_aload_n hx hb dX0_speed_10 rfl (lv_at hl 0 rfl) ?_
    have hF := sr_fW hD hS hA
    refine va_callv (va_runV (As := []) (rest := []) ⟨hx, hb, hml, hown, hts⟩ (sr_X0_fall l D cI cB cM ax s.heap.size g hg _ ⟨am, ai, ar, aq, sf, sl, fm, li, ri, sp, dn, pl, rfl, i1, i2, i3, i4, i5, i6⟩ (hD.weaken (fun _ _ _ _ => trivial))) (cwV 0 hts (lw_V q163 q165 qs2 q7 q166) rfl rfl rfl (by decide +kernel) ⟨Nat.le_of_ble_eq_true rfl, Nat.le_of_ble_eq_true rfl⟩) (sr_preV hKK ⟨rfl, hP⟩ (va_recv hKK.1 hP (ci := 0) (q0 := 0) rfl rfl)) rfl rfl hl.1 rfl (lv_room (Nat.le_of_ble_eq_true rfl)) dX0_speed_11 ⟨Nat.le_of_ble_eq_true rfl, Nat.le_of_ble_eq_true rfl⟩) hS (fun q _ h => hF q h) hF (fun u t H1 locs ht hvm hw1 hB hz1 hk1 hS => ?_)
    obtain ⟨hP1, hD1⟩ := hB
    rw [ht] at hP1
    have hD1 := hD1.weaken (B := A) (fun k q _ h => hF q.1 h)
    obtain ⟨am, ai, ar, aq, sf, sl, fm, li, ri, sp, pl, rfl, ⟨i1, i2, i3, i4, i5, i6⟩, hsp⟩ := hw1
    generalize H1 = H at hP1 hS ⊢
    have hP : va_P D vwCl ((ax, .inr (0, [.ref am, .ref ai, .ref ar, .ref aq, .int (nI g.1), .int (nI g.2.1), .ref sf, .ref sl, .int 1])) :: (am, .inl (cM, 2000, .inr (.inr (.inr (.inr fm))))) :: (ai, .inl (cI, 2001, .inl li)) :: (ar, .inl (cI, 2001, .inl ri)) :: (aq, .inl (cI, 2001, .inl sp)) :: pl) H := hP1
    have hD : va_D A ((ax, .inr (0, [.ref am, .ref ai, .ref ar, .ref aq, .int (nI g.1), .int (nI g.2.1), .ref sf, .ref sl, .int 1])) :: (am, .inl (cM, 2000, .inr (.inr (.inr (.inr fm))))) :: (ai, .inl (cI, 2001, .inl li)) :: (ar, .inl (cI, 2001, .inl ri)) :: (aq, .inl (cI, 2001, .inl sp)) :: pl) := hD1
    obtain ⟨hk1, hk2⟩ := sr_bok_num hg1 hok
    refine lv_aload_n hx hb dX0_speed_14 rfl (lv_at hl 0 rfl) ?_
    refine va_get (D := D) (ci := 0) (v := .ref aq) (C := RX0) (T := TX0) (N := 9) hx hb hts in_X0 hown hKK.1 hP 0 rfl rfl 3 (by decide) (hts _ q46) (fun _ h9 => h9) rfl dX0_speed_15 ?_
    refine lv_iload_n hx hb dX0_speed_18 rfl (lv_at hl 1 rfl) ?_
    refine va_iald hx hb hKK.1 hP 4 0 rfl rfl (by rw [hk1]; exact vp_in_nI (by omega) (by omega)) dX0_speed_19 ?_
    exact W.iret hx hb hr (fun t ht hW => ⟨⟨_, _, rfl, ⟨Or.inl ⟨hok, hsp _ hk2⟩, ⟨am, ai, ar, aq, sf, sl, fm, li, ri, sp, 1, pl, rfl, i1, i2, i3, i4, i5, i6⟩⟩, by rw [ht]; exact hP, hD⟩, hS.F ht⟩) hS.2.2 dX0_speed_20
  · refine lv_if_ne (tgt := 10) hx hb dX0_speed_5 (by decide) (fun c_ => absurd (rfl) c_) (fun c_ => ?_)
    refine lv_iconst (v := (-1)) hx hb dX0_speed_8 (by decide +kernel) ?_
    exact W.iret hx hb hr (fun t ht hW => ⟨⟨_, _, rfl, ⟨Or.inr ⟨hno, rfl⟩, ⟨am, ai, ar, aq, sf, sl, fm, li, ri, sp, dn, pl, rfl, i1, i2, i3, i4, i5, i6⟩⟩, by rw [ht]; exact hP, hD⟩, hS.F ht⟩) hS.2.2 dX0_speed_9
set_option maxHeartbeats 4000000 in
set_option maxRecDepth 100000 in
/-- sum() -/
theorem sr_X0_sum (l : Launch) (D : va_G) (cI cB cM : ClassId) (ax sz : Nat) (g : sr_Sg) (hg : sr_OK g) (w : va_W) (hw : sr_XR cI cM ax g w) (hD0 : va_D (fun _ => True) w) : sr_CtL l D cI cB cM yX0_sum wsX0_sum ({ frames := 3, cells := 0, slots := 0, locals := 69 } : Room) [.ref ax] w sz (fun r u => r = sr_sum (sr_spd g) (g.1 + 1) ∧ sr_XR cI cM ax g u) 0 0 := by
  obtain ⟨am, ai, ar, aq, sf, sl, fm, li, ri, sp, dn, pl, rfl, i1, i2, i3, i4, i5, i6⟩ := hw
  refine Met.ofW (cc := cX0_sum) (maxL := 4) (ret := (some .long)) (by decide) rfl ?_
  intro p e s m args below meth c s₁ B hml hv
  obtain ⟨rfl, hKK, hsz, hP⟩ := hv
  have hx := B.exec
  have hb := B.bytes
  have hr := B.returns
  have hts := atoms_spec (ws := wsX0_sum) B.pre
  have hts : ∀ w ∈ lw_all, w.before _ s = true := fun w h => hts w (List.mem_cons_of_mem _ h)
  have hown : s.vm.findClass RX0 = some m.cls := findClass_of_methodNamed B.named
  have hlocks := B.notSynchronized
  subst hsz
  have hD := hD0.self (sz := s.heap.size)
  generalize hAe : va_A ((ax, .inr (0, [.ref am, .ref ai, .ref ar, .ref aq, .int (nI g.1), .int (nI g.2.1), .ref sf, .ref sl, .int dn])) :: (am, .inl (cM, 2000, .inr (.inr (.inr (.inr fm))))) :: (ai, .inl (cI, 2001, .inl li)) :: (ar, .inl (cI, 2001, .inl ri)) :: (aq, .inl (cI, 2001, .inl sp)) :: pl) s.heap.size = A at hD ⊢
  have hA : ∀ q : Nat, s.heap.size ≤ q → A q := fun q h => by rw [← hAe]; exact Or.inr h
  have hS : va_S A s.heap s.heap [] := va_S.rf
  have hP : va_P D vwCl ((ax, .inr (0, [.ref am, .ref ai, .ref ar, .ref aq, .int (nI g.1), .int (nI g.2.1), .ref sf, .ref sl, .int dn])) :: (am, .inl (cM, 2000, .inr (.inr (.inr (.inr fm))))) :: (ai, .inl (cI, 2001, .inl li)) :: (ar, .inl (cI, 2001, .inl ri)) :: (aq, .inl (cI, 2001, .inl sp)) :: pl) s.heap := hP
  have hl := lv_entry ([.ref ax]) (n := 4) (Nat.le_of_ble_eq_true rfl)
  rw [lg_entry_eq]
  generalize (lg_sl ([.ref ax]) ++ List.replicate (4 - (lg_sl ([.ref ax])).length) Slot.unset).toArray = ls at hl ⊢
  have hl : lv_has ls 4 [(0, .ref ax)] := hl
  have hg1 := hg.1
  refine lv_aload_n hx hb dX0_sum_0 rfl (lv_at hl 0 rfl) ?_
  have hF := sr_fW hD hS hA
  refine va_callv (va_runV (As := []) (rest := []) ⟨hx, hb, hml, hown, hts⟩ (sr_X0_fall l D cI cB cM ax s.heap.size g hg _ ⟨am, ai, ar, aq, sf, sl, fm, li, ri, sp, dn, pl, rfl, i1, i2, i3, i4, i5, i6⟩ (hD.weaken (fun _ _ _ _ => trivial))) (cwV 0 hts (lw_V q163 q165 qs2 q7 q166) rfl rfl rfl (by decide +kernel) ⟨Nat.le_of_ble_eq_true rfl, Nat.le_of_ble_eq_true rfl⟩) (sr_preV hKK ⟨rfl, hP⟩ (va_recv hKK.1 hP (ci := 0) (q0 := 0) rfl rfl)) rfl rfl hl.1 rfl (lv_room (Nat.le_of_ble_eq_true rfl)) dX0_sum_1 ⟨Nat.le_of_ble_eq_true rfl, Nat.le_of_ble_eq_true rfl⟩) hS (fun q _ h => hF q h) hF (fun u t H1 locs ht hvm hw1 hB hz1 hk1 hS => ?_)
  obtain ⟨hP1, hD1⟩ := hB
  rw [ht] at hP1
  have hD1 := hD1.weaken (B := A) (fun k q _ h => hF q.1 h)
  obtain ⟨am, ai, ar, aq, sf, sl, fm, li, ri, sp, pl, rfl, ⟨i1, i2, i3, i4, i5, i6⟩, hsp⟩ := hw1
  generalize H1 = H at hP1 hS ⊢
  have hP : va_P D vwCl ((ax, .inr (0, [.ref am, .ref ai, .ref ar, .ref aq, .int (nI g.1), .int (nI g.2.1), .ref sf, .ref sl, .int 1])) :: (am, .inl (cM, 2000, .inr (.inr (.inr (.inr fm))))) :: (ai, .inl (cI, 2001, .inl li)) :: (ar, .inl (cI, 2001, .inl ri)) :: (aq, .inl (cI, 2001, .inl sp)) :: pl) H := hP1
  have hD : va_D A ((ax, .inr (0, [.ref am, .ref ai, .ref ar, .ref aq, .int (nI g.1), .int (nI g.2.1), .ref sf, .ref sl, .int 1])) :: (am, .inl (cM, 2000, .inr (.inr (.inr (.inr fm))))) :: (ai, .inl (cI, 2001, .inl li)) :: (ar, .inl (cI, 2001, .inl ri)) :: (aq, .inl (cI, 2001, .inl sp)) :: pl) := hD1
  have loop : ∀ (n k : Nat) (ls : Array Slot), k ≤ g.1 + 1 → g.1 + 2 ≤ k + n → lv_has ls 4 [(3, .int (nI k)), (1, .long (sr_sum (sr_spd g) k)), (0, .ref ax)] → W p l e (headSpec wsX0_sum ({ frames := 3, cells := 0, slots := 0, locals := 69 } : Room)).room s m ([.ref ax] : List Value).toArray below meth c H locs (0 + 0) (0 + 0) (MQ below (va_Ql (fun r u => r = sr_sum (sr_spd g) (g.1 + 1) ∧ sr_XR cI cM ax g u) (sr_Bw D A) A) ([.ref ax] : List Value).toArray s 0 0 A) (F0 m 8 ls []) := by
    intro n
    induction n with
    | zero => intro k ls h1 h2; exact absurd h2 (by omega)
    | succ n ih =>
      intro k ls h1 h2 hl
      refine lv_iload_n hx hb dX0_sum_8 rfl (lv_at hl 0 rfl) ?_
      refine lv_aload_n hx hb dX0_sum_9 rfl (lv_at hl 2 rfl) ?_
      refine va_get (D := D) (ci := 0) (v := .int (nI g.1)) (C := RX0) (T := TX0) (N := 9) hx hb hts in_X0 hown hKK.1 hP 0 rfl rfl 4 (by decide) (hts _ q47) (fun _ h9 => h9) rfl dX0_sum_10 ?_
      refine lv_icmp_gt (tgt := 32) hx hb dX0_sum_13 (by decide) (fun c3 => ?_) (fun c3 => ?_)
      · have hk : g.1 < k := (nI_ltI (by omega) (by omega)).mp c3
        refine lv_lload_n hx hb dX0_sum_32 rfl (lv_at hl 1 rfl) ?_
        exact W.lret hx hb hr (fun t ht hW => ⟨⟨_, _, rfl, ⟨by rw [show k = g.1 + 1 by omega], ⟨am, ai, ar, aq, sf, sl, fm, li, ri, sp, 1, pl, rfl, i1, i2, i3, i4, i5, i6⟩⟩, by rw [ht]; exact hP, hD⟩, hS.F ht⟩) hS.2.2 dX0_sum_33
      · have hk : k ≤ g.1 := Nat.le_of_not_lt (fun h => c3 (nI_lt h (by omega)))
        refine lv_lload_n hx hb dX0_sum_16 rfl (lv_at hl 1 rfl) ?_
        refine lv_aload_n hx hb dX0_sum_17 rfl (lv_at hl 2 rfl) ?_
        refine va_get (D := D) (ci := 0) (v := .ref aq) (C := RX0) (T := TX0) (N := 9) hx hb hts in_X0 hown hKK.1 hP 0 rfl rfl 3 (by decide) (hts _ q46) (fun _ h9 => h9) rfl dX0_sum_18 ?_
        refine lv_iload_n hx hb dX0_sum_21 rfl (lv_at hl 0 rfl) ?_
        refine va_iald hx hb hKK.1 hP 4 0 rfl rfl (vp_in_nI (by omega) (by omega)) dX0_sum_22 ?_
        refine sr_ti (y := (nI (sr_spd g k))) (by rw [nI_clamp (by omega)]; exact hsp k hk) ?_
        refine lv_i2l (v := (nI (sr_spd g k)).toInt64) hx hb dX0_sum_23 rfl ?_
        refine lv_ladd hx hb dX0_sum_24 ?_
        refine sr_tl (y := (sr_sum (sr_spd g) (k + 1))) (rfl) ?_
        refine lv_lstore_n (lv' := [(1, .long (sr_sum (sr_spd g) (k + 1))), (3, .int (nI k)), (0, .ref ax)]) hx hb dX0_sum_25 rfl hl (by decide) rfl (fun ls hl => ?_)
        refine lv_iinc (v := (nI (k + 1))) (lv' := [(3, .int (nI (k + 1))), (1, .long (sr_sum (sr_spd g) (k + 1))), (0, .ref ax)]) hx hb dX0_sum_26 hl (k := 1) rfl (nI_1 k) (by decide) rfl (fun ls hl => ?_)
        refine lv_goto (tgt := 8) hx hb dX0_sum_29 (by decide) ?_
        exact ih (k + 1) ls (by omega) (by omega) (lv_sub hl [0, 1, 2] rfl)
  refine lv_lconst (v := (lN 0)) hx hb dX0_sum_4 (by decide +kernel) ?_
  refine lv_lstore_n (lv' := [(1, .long (lN 0)), (0, .ref ax)]) hx hb dX0_sum_5 rfl hl (by decide) rfl (fun ls hl => ?_)
  refine lv_iconst (v := (nI 0)) hx hb dX0_sum_6 (by decide +kernel) ?_
  refine lv_istore_n (lv' := [(3, .int (nI 0)), (1, .long (lN 0)), (0, .ref ax)]) hx hb dX0_sum_7 rfl hl (by decide) rfl (fun ls hl => ?_)
  exact loop (g.1 + 2) 0 ls (by omega) (by omega) (lv_sub hl [0, 1, 2] rfl)
set_option maxHeartbeats 4000000 in
set_option maxRecDepth 100000 in
/-- below() -/
theorem sr_X0_below (l : Launch) (D : va_G) (cI cB cM : ClassId) (ax sz : Nat) (g : sr_Sg) (hg : sr_OK g) (w : va_W) (hw : sr_XR cI cM ax g w) (hD0 : va_D (fun _ => True) w) : sr_CtI l D cI cB cM yX0_below wsX0_below ({ frames := 3, cells := 0, slots := 0, locals := 69 } : Room) [.ref ax] w sz (fun r u => r = sr_bel (sr_spd g) (sr_lim g) (g.1 + 1) ∧ sr_XR cI cM ax g u) 0 0 := by
  obtain ⟨am, ai, ar, aq, sf, sl, fm, li, ri, sp, dn, pl, rfl, i1, i2, i3, i4, i5, i6⟩ := hw
  refine Met.ofW (cc := cX0_below) (maxL := 3) (ret := (some .int)) (by decide) rfl ?_
  intro p e s m args below meth c s₁ B hml hv
  obtain ⟨rfl, hKK, hsz, hP⟩ := hv
  have hx := B.exec
  have hb := B.bytes
  have hr := B.returns
  have hts := atoms_spec (ws := wsX0_below) B.pre
  have hts : ∀ w ∈ lw_all, w.before _ s = true := fun w h => hts w (List.mem_cons_of_mem _ h)
  have hown : s.vm.findClass RX0 = some m.cls := findClass_of_methodNamed B.named
  have hlocks := B.notSynchronized
  subst hsz
  have hD := hD0.self (sz := s.heap.size)
  generalize hAe : va_A ((ax, .inr (0, [.ref am, .ref ai, .ref ar, .ref aq, .int (nI g.1), .int (nI g.2.1), .ref sf, .ref sl, .int dn])) :: (am, .inl (cM, 2000, .inr (.inr (.inr (.inr fm))))) :: (ai, .inl (cI, 2001, .inl li)) :: (ar, .inl (cI, 2001, .inl ri)) :: (aq, .inl (cI, 2001, .inl sp)) :: pl) s.heap.size = A at hD ⊢
  have hA : ∀ q : Nat, s.heap.size ≤ q → A q := fun q h => by rw [← hAe]; exact Or.inr h
  have hS : va_S A s.heap s.heap [] := va_S.rf
  have hP : va_P D vwCl ((ax, .inr (0, [.ref am, .ref ai, .ref ar, .ref aq, .int (nI g.1), .int (nI g.2.1), .ref sf, .ref sl, .int dn])) :: (am, .inl (cM, 2000, .inr (.inr (.inr (.inr fm))))) :: (ai, .inl (cI, 2001, .inl li)) :: (ar, .inl (cI, 2001, .inl ri)) :: (aq, .inl (cI, 2001, .inl sp)) :: pl) s.heap := hP
  have hl := lv_entry ([.ref ax]) (n := 3) (Nat.le_of_ble_eq_true rfl)
  rw [lg_entry_eq]
  generalize (lg_sl ([.ref ax]) ++ List.replicate (3 - (lg_sl ([.ref ax])).length) Slot.unset).toArray = ls at hl ⊢
  have hl : lv_has ls 3 [(0, .ref ax)] := hl
  have hg1 := hg.1
  refine lv_aload_n hx hb dX0_below_0 rfl (lv_at hl 0 rfl) ?_
  have hF := sr_fW hD hS hA
  refine va_callv (va_runV (As := []) (rest := []) ⟨hx, hb, hml, hown, hts⟩ (sr_X0_fall l D cI cB cM ax s.heap.size g hg _ ⟨am, ai, ar, aq, sf, sl, fm, li, ri, sp, dn, pl, rfl, i1, i2, i3, i4, i5, i6⟩ (hD.weaken (fun _ _ _ _ => trivial))) (cwV 0 hts (lw_V q163 q165 qs2 q7 q166) rfl rfl rfl (by decide +kernel) ⟨Nat.le_of_ble_eq_true rfl, Nat.le_of_ble_eq_true rfl⟩) (sr_preV hKK ⟨rfl, hP⟩ (va_recv hKK.1 hP (ci := 0) (q0 := 0) rfl rfl)) rfl rfl hl.1 rfl (lv_room (Nat.le_of_ble_eq_true rfl)) dX0_below_1 ⟨Nat.le_of_ble_eq_true rfl, Nat.le_of_ble_eq_true rfl⟩) hS (fun q _ h => hF q h) hF (fun u t H1 locs ht hvm hw1 hB hz1 hk1 hS => ?_)
  obtain ⟨hP1, hD1⟩ := hB
  rw [ht] at hP1
  have hD1 := hD1.weaken (B := A) (fun k q _ h => hF q.1 h)
  obtain ⟨am, ai, ar, aq, sf, sl, fm, li, ri, sp, pl, rfl, ⟨i1, i2, i3, i4, i5, i6⟩, hsp⟩ := hw1
  generalize H1 = H at hP1 hS ⊢
  have hP : va_P D vwCl ((ax, .inr (0, [.ref am, .ref ai, .ref ar, .ref aq, .int (nI g.1), .int (nI g.2.1), .ref sf, .ref sl, .int 1])) :: (am, .inl (cM, 2000, .inr (.inr (.inr (.inr fm))))) :: (ai, .inl (cI, 2001, .inl li)) :: (ar, .inl (cI, 2001, .inl ri)) :: (aq, .inl (cI, 2001, .inl sp)) :: pl) H := hP1
  have hD : va_D A ((ax, .inr (0, [.ref am, .ref ai, .ref ar, .ref aq, .int (nI g.1), .int (nI g.2.1), .ref sf, .ref sl, .int 1])) :: (am, .inl (cM, 2000, .inr (.inr (.inr (.inr fm))))) :: (ai, .inl (cI, 2001, .inl li)) :: (ar, .inl (cI, 2001, .inl ri)) :: (aq, .inl (cI, 2001, .inl sp)) :: pl) := hD1
  have loop : ∀ (n k : Nat) (ls : Array Slot), k ≤ g.1 + 1 → g.1 + 2 ≤ k + n → lv_has ls 3 [(2, .int (nI k)), (1, .int (sr_bel (sr_spd g) (sr_lim g) k)), (0, .ref ax)] → W p l e (headSpec wsX0_below ({ frames := 3, cells := 0, slots := 0, locals := 69 } : Room)).room s m ([.ref ax] : List Value).toArray below meth c H locs (0 + 0) (0 + 0) (MQ below (va_Qi (fun r u => r = sr_bel (sr_spd g) (sr_lim g) (g.1 + 1) ∧ sr_XR cI cM ax g u) (sr_Bw D A) A) ([.ref ax] : List Value).toArray s 0 0 A) (F0 m 8 ls []) := by
    intro n
    induction n with
    | zero => intro k ls h1 h2; exact absurd h2 (by omega)
    | succ n ih =>
      intro k ls h1 h2 hl
      refine lv_iload_n hx hb dX0_below_8 rfl (lv_at hl 0 rfl) ?_
      refine lv_aload_n hx hb dX0_below_9 rfl (lv_at hl 2 rfl) ?_
      refine va_get (D := D) (ci := 0) (v := .int (nI g.1)) (C := RX0) (T := TX0) (N := 9) hx hb hts in_X0 hown hKK.1 hP 0 rfl rfl 4 (by decide) (hts _ q47) (fun _ h9 => h9) rfl dX0_below_10 ?_
      refine lv_icmp_gt (tgt := 39) hx hb dX0_below_13 (by decide) (fun c3 => ?_) (fun c3 => ?_)
      · have hk : g.1 < k := (nI_ltI (by omega) (by omega)).mp c3
        refine lv_iload_n hx hb dX0_below_39 rfl (lv_at hl 1 rfl) ?_
        exact W.iret hx hb hr (fun t ht hW => ⟨⟨_, _, rfl, ⟨by rw [show k = g.1 + 1 by omega], ⟨am, ai, ar, aq, sf, sl, fm, li, ri, sp, 1, pl, rfl, i1, i2, i3, i4, i5, i6⟩⟩, by rw [ht]; exact hP, hD⟩, hS.F ht⟩) hS.2.2 dX0_below_40
      · have hk : k ≤ g.1 := Nat.le_of_not_lt (fun h => c3 (nI_lt h (by omega)))
        have hPl := hP.sub (ws' := [(ax, .inr (0, [.ref am, .ref ai, .ref ar, .ref aq, .int (nI g.1), .int (nI g.2.1), .ref sf, .ref sl, .int 1])), (ai, .inl (cI, 2001, .inl li))]) [0, 2] rfl
        refine lv_aload_n hx hb dX0_below_16 rfl (lv_at hl 2 rfl) ?_
        refine va_get (D := D) (ci := 0) (v := .ref aq) (C := RX0) (T := TX0) (N := 9) hx hb hts in_X0 hown hKK.1 hP 0 rfl rfl 3 (by decide) (hts _ q46) (fun _ h9 => h9) rfl dX0_below_17 ?_
        refine lv_iload_n hx hb dX0_below_20 rfl (lv_at hl 0 rfl) ?_
        refine va_iald hx hb hKK.1 hP 4 0 rfl rfl (vp_in_nI (by omega) (by omega)) dX0_below_21 ?_
        refine sr_ti (y := (nI (sr_spd g k))) (by rw [nI_clamp (by omega)]; exact hsp k hk) ?_
        refine lv_aload_n hx hb dX0_below_22 rfl (lv_at hl 2 rfl) ?_
        refine lv_iload_n hx hb dX0_below_23 rfl (lv_at hl 0 rfl) ?_
        refine vp_callSi (W.runV (As := [.int (nI k)]) (rest := [.int (nI (sr_spd g k))]) ⟨hx, hb, hml, hown, hts⟩ (sr_X0_limit l D cI cB cM ax ai (.ref am) (.ref ar) (.ref aq) (.int (nI g.2.1)) (.ref sf) (.ref sl) (.int 1) li g hg1 i4 (nI k)) (cwV 1 hts (lw_V q175 q152 q153 q7 q154) rfl rfl rfl (by decide +kernel) ⟨Nat.le_of_ble_eq_true rfl, Nat.le_of_ble_eq_true rfl⟩) (sr_preV hKK hPl (va_recv hKK.1 hPl (ci := 0) (q0 := 0) rfl rfl)) rfl rfl hl.1 rfl (lv_room (Nat.le_of_ble_eq_true rfl)) dX0_below_24 ⟨Nat.le_of_ble_eq_true rfl, Nat.le_of_ble_eq_true rfl⟩) (fun r1 hr1 => ?_)
        have hok : sr_bok g (nI k) := ⟨nI_pos (by omega), nI_le hk (by omega)⟩
        have hr1 : r1 = nI (sr_lim g k) := by
          rcases hr1 with ⟨-, q⟩ | ⟨q, -⟩
          · rw [q, nI_clamp (by omega)]
          · exact absurd hok q
        have hr1 := hr1.symm
        subst hr1
        refine lv_icmp_ge (tgt := 33) hx hb dX0_below_27 (by decide) (fun c4 => ?_) (fun c4 => ?_)
        · refine lv_iinc (v := (nI (k + 1))) (lv' := [(2, .int (nI (k + 1))), (1, .int (sr_bel (sr_spd g) (sr_lim g) k)), (0, .ref ax)]) hx hb dX0_below_33 hl (k := 0) rfl (nI_1 k) (by decide) rfl (fun ls hl => ?_)
          refine lv_goto (tgt := 8) hx hb dX0_below_36 (by decide) ?_
          have hbe : sr_bel (sr_spd g) (sr_lim g) (k + 1) = sr_bel (sr_spd g) (sr_lim g) k := if_neg (Int32.not_lt.mpr c4)
          exact ih (k + 1) ls (by omega) (by omega) (by rw [hbe]; exact lv_sub hl [0, 1, 2] rfl)
        · refine lv_iinc (v := (sr_bel (sr_spd g) (sr_lim g) k + 1)) (lv' := [(1, .int (sr_bel (sr_spd g) (sr_lim g) k + 1)), (2, .int (nI k)), (0, .ref ax)]) hx hb dX0_below_30 hl (k := 1) rfl (rfl) (by decide) rfl (fun ls hl => ?_)
          refine lv_iinc (v := (nI (k + 1))) (lv' := [(2, .int (nI (k + 1))), (1, .int (sr_bel (sr_spd g) (sr_lim g) k + 1)), (0, .ref ax)]) hx hb dX0_below_33 hl (k := 1) rfl (nI_1 k) (by decide) rfl (fun ls hl => ?_)
          refine lv_goto (tgt := 8) hx hb dX0_below_36 (by decide) ?_
          have hbe : sr_bel (sr_spd g) (sr_lim g) (k + 1) = sr_bel (sr_spd g) (sr_lim g) k + 1 := if_pos (Int32.not_le.mp c4)
          exact ih (k + 1) ls (by omega) (by omega) (by rw [hbe]; exact lv_sub hl [0, 1, 2] rfl)
  refine lv_iconst (v := (nI 0)) hx hb dX0_below_4 (by decide +kernel) ?_
  refine lv_istore_n (lv' := [(1, .int (nI 0)), (0, .ref ax)]) hx hb dX0_below_5 rfl hl (by decide) rfl (fun ls hl => ?_)
  refine lv_iconst (v := (nI 0)) hx hb dX0_below_6 (by decide +kernel) ?_
  refine lv_istore_n (lv' := [(2, .int (nI 0)), (1, .int (nI 0)), (0, .ref ax)]) hx hb dX0_below_7 rfl hl (by decide) rfl (fun ls hl => ?_)
  exact loop (g.1 + 2) 0 ls (by omega) (by omega) (lv_sub hl [0, 1, 2] rfl)
end
section
/-! SpeedRows: the methods that make cells (first, last, move, the constructor) -/
theorem sr_ra_o {s : State} {a b : ClassId} {C : String} (h1 : va_RA s a (.object C)) (h2 : va_RA s b (.object C)) : a = b := by
  obtain ⟨k1, c1, -, -, -, e1⟩ := h1
  obtain ⟨k2, c2, -, -, -, e2⟩ := h2
  exact Option.some.inj (e1.symm.trans e2)
theorem sr_ra_i {s : State} {a b : ClassId} (h1 : va_RA s a .int) (h2 : va_RA s b .int) : a = b := Option.some.inj ((show s.vm.findClass _ = some a from h1).symm.trans h2)
theorem sr_ra_b {s : State} {a b : ClassId} (h1 : va_RA s a .byte) (h2 : va_RA s b .byte) : a = b := Option.some.inj ((show s.vm.findClass _ = some a from h1).symm.trans h2)
/-- the start -/
def sr_g0 : sr_Sg := (0, 100, (1, 0, 0), (1, 0, 0), fun _ => (0, 0, (0, 0, 0), (0, 0, 0)))
theorem sr_g0_ok : sr_OK sr_g0 := ⟨by decide, by decide, by decide, (by decide +kernel : sr_isOne 1 0 0 = 1), (by decide +kernel : sr_isOne 1 0 0 = 1), fun i h => absurd h (Nat.not_lt_zero i)⟩
abbrev wsX0_first : List Cond := ws_ yX0_first cX0_first 4 (some .boolean)
abbrev wsX0_last : List Cond := ws_ yX0_last cX0_last 4 (some .boolean)
abbrev wsX0_move : List Cond := ws_ yX0_move cX0_move 3 (some .int)
abbrev wsX0_init : List Cond := ws_ yX0_init cX0_init 1 none
set_option maxHeartbeats 4000000 in
set_option maxRecDepth 100000 in
/-- first(x, y, z) -/
theorem sr_X0_first (l : Launch) (D : va_G) (cI cB cM : ClassId) (ax sz : Nat) (g : sr_Sg) (hg : sr_OK g) (w : va_W) (hw : sr_XR cI cM ax g w) (hD0 : va_D (fun _ => True) w) (x y z : Int32) : sr_CtI l D cI cB cM yX0_first wsX0_first ({ frames := 3, cells := 1, slots := 3, locals := 80 } : Room) [.ref ax, .int x, .int y, .int z] w sz (fun r u => r = sr_isOne x y z ∧ sr_XR cI cM ax (sr_sFirst g x y z) u) 1 3 := by
  obtain ⟨am, ai, ar, aq, sf, sl, fm, li, ri, sp, dn, pl, rfl, i1, i2, i3, i4, i5, i6⟩ := hw
  refine Met.ofW (cc := cX0_first) (maxL := 4) (ret := (some .boolean)) (by decide) rfl ?_
  intro p e s m args below meth c s₁ B hml hv
  obtain ⟨rfl, hKK, hsz, hP⟩ := hv
  have hx := B.exec
  have hb := B.bytes
  have hr := B.returns
  have hts := atoms_spec (ws := wsX0_first) B.pre
  have hts : ∀ w ∈ lw_all, w.before _ s = true := fun w h => hts w (List.mem_cons_of_mem _ h)
  have hown : s.vm.findClass RX0 = some m.cls := findClass_of_methodNamed B.named
  have hlocks := B.notSynchronized
  subst hsz
  have hD := hD0.self (sz := s.heap.size)
  generalize hAe : va_A ((ax, .inr (0, [.ref am, .ref ai, .ref ar, .ref aq, .int (nI g.1), .int (nI g.2.1), .ref sf, .ref sl, .int dn])) :: (am, .inl (cM, 2000, .inr (.inr (.inr (.inr fm))))) :: (ai, .inl (cI, 2001, .inl li)) :: (ar, .inl (cI, 2001, .inl ri)) :: (aq, .inl (cI, 2001, .inl sp)) :: pl) s.heap.size = A at hD ⊢
  have hA : ∀ q : Nat, s.heap.size ≤ q → A q := fun q h => by rw [← hAe]; exact Or.inr h
  have hS : va_S A s.heap s.heap [] := va_S.rf
  have hP : va_P D vwCl ((ax, .inr (0, [.ref am, .ref ai, .ref ar, .ref aq, .int (nI g.1), .int (nI g.2.1), .ref sf, .ref sl, .int dn])) :: (am, .inl (cM, 2000, .inr (.inr (.inr (.inr fm))))) :: (ai, .inl (cI, 2001, .inl li)) :: (ar, .inl (cI, 2001, .inl ri)) :: (aq, .inl (cI, 2001, .inl sp)) :: pl) s.heap := hP
  have hl := lv_entry ([.ref ax, .int x, .int y, .int z]) (n := 4) (Nat.le_of_ble_eq_true rfl)
  rw [lg_entry_eq]
  generalize (lg_sl ([.ref ax, .int x, .int y, .int z]) ++ List.replicate (4 - (lg_sl ([.ref ax, .int x, .int y, .int z])).length) Slot.unset).toArray = ls at hl ⊢
  have hl : lv_has ls 4 [(0, .ref ax), (1, .int x), (2, .int y), (3, .int z)] := hl
  refine lv_iload_n hx hb dX0_first_0 rfl (lv_at hl 1 rfl) ?_
  refine lv_iload_n hx hb dX0_first_1 rfl (lv_at hl 2 rfl) ?_
  refine lv_iload_n hx hb dX0_first_2 rfl (lv_at hl 3 rfl) ?_
  refine vp_callSi (W.runS (As := [.int x, .int y, .int z]) (rest := []) ⟨hx, hb, hml, hown, hts⟩ (sr_X1_isOne l D cI cB cM x y z) (va_cwS 3 hts (lw_S q75 q76 q9 q77) rfl rfl rfl (by decide +kernel) ⟨Nat.le_of_ble_eq_true rfl, Nat.le_of_ble_eq_true rfl⟩) (sr_preS hKK sr_P0) rfl rfl hl.1 rfl (lv_room (Nat.le_of_ble_eq_true rfl)) dX0_first_3 ⟨Nat.le_of_ble_eq_true rfl, Nat.le_of_ble_eq_true rfl⟩) (fun r1 hr1 => ?_)
  have hr1 := hr1.symm
  subst hr1
  refine lv_if_ne (tgt := 11) hx hb dX0_first_6 (by decide) (fun c1 => ?_) (fun c1 => ?_)
  · have h1 : sr_isOne x y z = 1 := (sr_isOne_01 x y z).resolve_left c1
    refine lv_aload_n hx hb dX0_first_11 rfl (lv_at hl 0 rfl) ?_
    refine va_new (ci := 1) (fs := [.int 0, .int 0, .int 0]) (C := RX1) (T := TX1) (N := 3) hx hb hts in_X1 tyX1 tyX1_ok hown (hts _ q23) (hts _ q24) (hts _ q9) hKK.1 hP hD hS hA rfl (fun j hj => by rcases (show j = 0 ∨ j = 1 ∨ j = 2 by omega) with rfl | rfl | rfl <;> rfl) (Nat.le_of_ble_eq_true rfl) (Nat.le_of_ble_eq_true rfl) dX0_first_12 (fun qn H hP hD hS => ?_)
    refine W.widen (k := 1) (n := 3) (by omega) (by omega) ?_
    refine lv_dup hx hb dX0_first_15 rfl ?_
    refine lv_iload_n hx hb dX0_first_16 rfl (lv_at hl 1 rfl) ?_
    refine lv_iload_n hx hb dX0_first_17 rfl (lv_at hl 2 rfl) ?_
    refine lv_iload_n hx hb dX0_first_18 rfl (lv_at hl 3 rfl) ?_
    have hP : va_P D vwCl (((ax, .inr (0, [.ref am, .ref ai, .ref ar, .ref aq, .int (nI g.1), .int (nI g.2.1), .ref sf, .ref sl, .int dn])) :: (am, .inl (cM, 2000, .inr (.inr (.inr (.inr fm))))) :: (ai, .inl (cI, 2001, .inl li)) :: (ar, .inl (cI, 2001, .inl ri)) :: (aq, .inl (cI, 2001, .inl sp)) :: pl) ++ [(qn, .inr (1, [.int 0, .int 0, .int 0]))]) H := hP
    have hD : va_D A (((ax, .inr (0, [.ref am, .ref ai, .ref ar, .ref aq, .int (nI g.1), .int (nI g.2.1), .ref sf, .ref sl, .int dn])) :: (am, .inl (cM, 2000, .inr (.inr (.inr (.inr fm))))) :: (ai, .inl (cI, 2001, .inl li)) :: (ar, .inl (cI, 2001, .inl ri)) :: (aq, .inl (cI, 2001, .inl sp)) :: pl) ++ [(qn, .inr (1, [.int 0, .int 0, .int 0]))]) := hD
    have hF := sr_fR hD hS hA
    refine va_callv (va_runIN (As := [.int x, .int y, .int z]) (rest := [.ref qn, .ref ax]) ⟨hx, hb, hml, hown, hts⟩ (sr_X1_init l D cI cB cM qn H.size x y z 0 0 0) ⟨va_cnB 3 hts (lw_meth q27) rfl rfl rfl hKK.2.2.1 (hts _ q9) (by decide +kernel) ⟨Nat.le_of_ble_eq_true rfl, Nat.le_of_ble_eq_true rfl⟩, rfl, hts _ q26⟩ (sr_preS hKK ⟨rfl, sr_Pr hP⟩) rfl rfl hl.1 rfl (lv_room (Nat.le_of_ble_eq_true rfl)) dX0_first_19 ⟨Nat.le_of_ble_eq_true rfl, Nat.le_of_ble_eq_true rfl⟩) hS (fun q _ h => hF q h) hF (fun u t H1 locs ht hvm hw1 hB hz1 hk1 hS => ?_)
    obtain ⟨hP1, hD1⟩ := hB
    rw [ht] at hP1
    subst hw1
    obtain ⟨hP, hD⟩ := sr_jR hP hD hk1 hF hP1 hD1
    generalize H1 = H at hP hS ⊢
    have hP : va_P D vwCl ((ax, .inr (0, [.ref am, .ref ai, .ref ar, .ref aq, .int (nI g.1), .int (nI g.2.1), .ref sf, .ref sl, .int dn])) :: (am, .inl (cM, 2000, .inr (.inr (.inr (.inr fm))))) :: (ai, .inl (cI, 2001, .inl li)) :: (ar, .inl (cI, 2001, .inl ri)) :: (aq, .inl (cI, 2001, .inl sp)) :: (pl ++ [(qn, .inr (1, [.int x, .int y, .int z]))])) H := hP
    have hD : va_D A ((ax, .inr (0, [.ref am, .ref ai, .ref ar, .ref aq, .int (nI g.1), .int (nI g.2.1), .ref sf, .ref sl, .int dn])) :: (am, .inl (cM, 2000, .inr (.inr (.inr (.inr fm))))) :: (ai, .inl (cI, 2001, .inl li)) :: (ar, .inl (cI, 2001, .inl ri)) :: (aq, .inl (cI, 2001, .inl sp)) :: (pl ++ [(qn, .inr (1, [.int x, .int y, .int z]))])) := hD
    refine va_put (D := D) (ci := 0) (v := .ref qn) (ty := .object "SpeedRows$Step") (C := RX0) (T := TX0) (N := 9) hx hb hts in_X0 tyX0 tyX0_ok nmX0 hown hKK.1 hP hD hS 0 rfl rfl 6 (by decide) (hts _ q49) (fun _ h9 => h9) rfl (by decide +kernel) rfl rfl (Nat.le_of_ble_eq_true rfl) dX0_first_22 (fun H locs hP hD hS => ?_)
    have hP : va_P D vwCl ((ax, .inr (0, [.ref am, .ref ai, .ref ar, .ref aq, .int (nI g.1), .int (nI g.2.1), .ref qn, .ref sl, .int dn])) :: (am, .inl (cM, 2000, .inr (.inr (.inr (.inr fm))))) :: (ai, .inl (cI, 2001, .inl li)) :: (ar, .inl (cI, 2001, .inl ri)) :: (aq, .inl (cI, 2001, .inl sp)) :: (pl ++ [(qn, .inr (1, [.int x, .int y, .int z]))])) H := hP
    have hD : va_D A ((ax, .inr (0, [.ref am, .ref ai, .ref ar, .ref aq, .int (nI g.1), .int (nI g.2.1), .ref qn, .ref sl, .int dn])) :: (am, .inl (cM, 2000, .inr (.inr (.inr (.inr fm))))) :: (ai, .inl (cI, 2001, .inl li)) :: (ar, .inl (cI, 2001, .inl ri)) :: (aq, .inl (cI, 2001, .inl sp)) :: (pl ++ [(qn, .inr (1, [.int x, .int y, .int z]))])) := hD
    refine lv_iconst (v := (nI 1)) hx hb dX0_first_25 (by decide +kernel) ?_
    have hsg : sr_sFirst g x y z = (g.1, g.2.1, (x, y, z), g.2.2.2.1, g.2.2.2.2) := if_pos h1
    exact W.zret hx hb hr rfl (fun t ht hW => ⟨⟨_, _, rfl, ⟨h1.symm, by rw [hsg]; exact ⟨am, ai, ar, aq, qn, sl, fm, li, ri, sp, dn, (pl ++ [(qn, .inr (1, [.int x, .int y, .int z]))]), rfl, List.mem_append_right _ (List.mem_singleton.mpr rfl), i2.app, fun i hi => (i3 i hi).app, i4, i5, i6⟩⟩, by rw [ht]; exact hP, hD⟩, hS.F ht⟩) hS.2.2 dX0_first_26
  · refine lv_iconst (v := (nI 0)) hx hb dX0_first_9 (by decide +kernel) ?_
    have hsg : sr_sFirst g x y z = g := if_neg (by rw [c1]; decide)
    refine W.widen (k := 1) (n := 3) (by omega) (by omega) ?_
    exact W.zret hx hb hr rfl (fun t ht hW => ⟨⟨_, _, rfl, ⟨c1.symm, by rw [hsg]; exact ⟨am, ai, ar, aq, sf, sl, fm, li, ri, sp, dn, pl, rfl, i1, i2, i3, i4, i5, i6⟩⟩, by rw [ht]; exact hP, hD⟩, hS.F ht⟩) hS.2.2 dX0_first_10
set_option maxHeartbeats 4000000 in
set_option maxRecDepth 100000 in
/-- last(x, y, z) -/
theorem sr_X0_last (l : Launch) (D : va_G) (cI cB cM : ClassId) (ax sz : Nat) (g : sr_Sg) (hg : sr_OK g) (w : va_W) (hw : sr_XR cI cM ax g w) (hD0 : va_D (fun _ => True) w) (x y z : Int32) : sr_CtI l D cI cB cM yX0_last wsX0_last ({ frames := 3, cells := 1, slots := 3, locals := 80 } : Room) [.ref ax, .int x, .int y, .int z] w sz (fun r u => r = sr_isOne x y z ∧ sr_XR cI cM ax (sr_sLast g x y z) u) 1 3 := by
  obtain ⟨am, ai, ar, aq, sf, sl, fm, li, ri, sp, dn, pl, rfl, i1, i2, i3, i4, i5, i6⟩ := hw
  refine Met.ofW (cc := cX0_last) (maxL := 4) (ret := (some .boolean)) (by decide) rfl ?_
  intro p e s m args below meth c s₁ B hml hv
  obtain ⟨rfl, hKK, hsz, hP⟩ := hv
  have hx := B.exec
  have hb := B.bytes
  have hr := B.returns
  have hts := atoms_spec (ws := wsX0_last) B.pre
  have hts : ∀ w ∈ lw_all, w.before _ s = true := fun w h => hts w (List.mem_cons_of_mem _ h)
  have hown : s.vm.findClass RX0 = some m.cls := findClass_of_methodNamed B.named
  have hlocks := B.notSynchronized
  subst hsz
  have hD := hD0.self (sz := s.heap.size)
  generalize hAe : va_A ((ax, .inr (0, [.ref am, .ref ai, .ref ar, .ref aq, .int (nI g.1), .int (nI g.2.1), .ref sf, .ref sl, .int dn])) :: (am, .inl (cM, 2000, .inr (.inr (.inr (.inr fm))))) :: (ai, .inl (cI, 2001, .inl li)) :: (ar, .inl (cI, 2001, .inl ri)) :: (aq, .inl (cI, 2001, .inl sp)) :: pl) s.heap.size = A at hD ⊢
  have hA : ∀ q : Nat, s.heap.size ≤ q → A q := fun q h => by rw [← hAe]; exact Or.inr h
  have hS : va_S A s.heap s.heap [] := va_S.rf
  have hP : va_P D vwCl ((ax, .inr (0, [.ref am, .ref ai, .ref ar, .ref aq, .int (nI g.1), .int (nI g.2.1), .ref sf, .ref sl, .int dn])) :: (am, .inl (cM, 2000, .inr (.inr (.inr (.inr fm))))) :: (ai, .inl (cI, 2001, .inl li)) :: (ar, .inl (cI, 2001, .inl ri)) :: (aq, .inl (cI, 2001, .inl sp)) :: pl) s.heap := hP
  have hl := lv_entry ([.ref ax, .int x, .int y, .int z]) (n := 4) (Nat.le_of_ble_eq_true rfl)
  rw [lg_entry_eq]
  generalize (lg_sl ([.ref ax, .int x, .int y, .int z]) ++ List.replicate (4 - (lg_sl ([.ref ax, .int x, .int y, .int z])).length) Slot.unset).toArray = ls at hl ⊢
  have hl : lv_has ls 4 [(0, .ref ax), (1, .int x), (2, .int y), (3, .int z)] := hl
  refine lv_iload_n hx hb dX0_last_0 rfl (lv_at hl 1 rfl) ?_
  refine lv_iload_n hx hb dX0_last_1 rfl (lv_at hl 2 rfl) ?_
  refine lv_iload_n hx hb dX0_last_2 rfl (lv_at hl 3 rfl) ?_
  refine vp_callSi (W.runS (As := [.int x, .int y, .int z]) (rest := []) ⟨hx, hb, hml, hown, hts⟩ (sr_X1_isOne l D cI cB cM x y z) (va_cwS 3 hts (lw_S q75 q76 q9 q77) rfl rfl rfl (by decide +kernel) ⟨Nat.le_of_ble_eq_true rfl, Nat.le_of_ble_eq_true rfl⟩) (sr_preS hKK sr_P0) rfl rfl hl.1 rfl (lv_room (Nat.le_of_ble_eq_true rfl)) dX0_last_3 ⟨Nat.le_of_ble_eq_true rfl, Nat.le_of_ble_eq_true rfl⟩) (fun r1 hr1 => ?_)
  have hr1 := hr1.symm
  subst hr1
  refine lv_if_ne (tgt := 11) hx hb dX0_last_6 (by decide) (fun c1 => ?_) (fun c1 => ?_)
  · have h1 : sr_isOne x y z = 1 := (sr_isOne_01 x y z).resolve_left c1
    refine lv_aload_n hx hb dX0_last_11 rfl (lv_at hl 0 rfl) ?_
    refine va_new (ci := 1) (fs := [.int 0, .int 0, .int 0]) (C := RX1) (T := TX1) (N := 3) hx hb hts in_X1 tyX1 tyX1_ok hown (hts _ q23) (hts _ q24) (hts _ q9) hKK.1 hP hD hS hA rfl (fun j hj => by rcases (show j = 0 ∨ j = 1 ∨ j = 2 by omega) with rfl | rfl | rfl <;> rfl) (Nat.le_of_ble_eq_true rfl) (Nat.le_of_ble_eq_true rfl) dX0_last_12 (fun qn H hP hD hS => ?_)
    refine W.widen (k := 1) (n := 3) (by omega) (by omega) ?_
    refine lv_dup hx hb dX0_last_15 rfl ?_
    refine lv_iload_n hx hb dX0_last_16 rfl (lv_at hl 1 rfl) ?_
    refine lv_iload_n hx hb dX0_last_17 rfl (lv_at hl 2 rfl) ?_
    refine lv_iload_n hx hb dX0_last_18 rfl (lv_at hl 3 rfl) ?_
    have hP : va_P D vwCl (((ax, .inr (0, [.ref am, .ref ai, .ref ar, .ref aq, .int (nI g.1), .int (nI g.2.1), .ref sf, .ref sl, .int dn])) :: (am, .inl (cM, 2000, .inr (.inr (.inr (.inr fm))))) :: (ai, .inl (cI, 2001, .inl li)) :: (ar, .inl (cI, 2001, .inl ri)) :: (aq, .inl (cI, 2001, .inl sp)) :: pl) ++ [(qn, .inr (1, [.int 0, .int 0, .int 0]))]) H := hP
    have hD : va_D A (((ax, .inr (0, [.ref am, .ref ai, .ref ar, .ref aq, .int (nI g.1), .int (nI g.2.1), .ref sf, .ref sl, .int dn])) :: (am, .inl (cM, 2000, .inr (.inr (.inr (.inr fm))))) :: (ai, .inl (cI, 2001, .inl li)) :: (ar, .inl (cI, 2001, .inl ri)) :: (aq, .inl (cI, 2001, .inl sp)) :: pl) ++ [(qn, .inr (1, [.int 0, .int 0, .int 0]))]) := hD
    have hF := sr_fR hD hS hA
    refine va_callv (va_runIN (As := [.int x, .int y, .int z]) (rest := [.ref qn, .ref ax]) ⟨hx, hb, hml, hown, hts⟩ (sr_X1_init l D cI cB cM qn H.size x y z 0 0 0) ⟨va_cnB 3 hts (lw_meth q27) rfl rfl rfl hKK.2.2.1 (hts _ q9) (by decide +kernel) ⟨Nat.le_of_ble_eq_true rfl, Nat.le_of_ble_eq_true rfl⟩, rfl, hts _ q26⟩ (sr_preS hKK ⟨rfl, sr_Pr hP⟩) rfl rfl hl.1 rfl (lv_room (Nat.le_of_ble_eq_true rfl)) dX0_last_19 ⟨Nat.le_of_ble_eq_true rfl, Nat.le_of_ble_eq_true rfl⟩) hS (fun q _ h => hF q h) hF (fun u t H1 locs ht hvm hw1 hB hz1 hk1 hS => ?_)
    obtain ⟨hP1, hD1⟩ := hB
    rw [ht] at hP1
    subst hw1
    obtain ⟨hP, hD⟩ := sr_jR hP hD hk1 hF hP1 hD1
    generalize H1 = H at hP hS ⊢
    have hP : va_P D vwCl ((ax, .inr (0, [.ref am, .ref ai, .ref ar, .ref aq, .int (nI g.1), .int (nI g.2.1), .ref sf, .ref sl, .int dn])) :: (am, .inl (cM, 2000, .inr (.inr (.inr (.inr fm))))) :: (ai, .inl (cI, 2001, .inl li)) :: (ar, .inl (cI, 2001, .inl ri)) :: (aq, .inl (cI, 2001, .inl sp)) :: (pl ++ [(qn, .inr (1, [.int x, .int y, .int z]))])) H := hP
    have hD : va_D A ((ax, .inr (0, [.ref am, .ref ai, .ref ar, .ref aq, .int (nI g.1), .int (nI g.2.1), .ref sf, .ref sl, .int dn])) :: (am, .inl (cM, 2000, .inr (.inr (.inr (.inr fm))))) :: (ai, .inl (cI, 2001, .inl li)) :: (ar, .inl (cI, 2001, .inl ri)) :: (aq, .inl (cI, 2001, .inl sp)) :: (pl ++ [(qn, .inr (1, [.int x, .int y, .int z]))])) := hD
    refine va_put (D := D) (ci := 0) (v := .ref qn) (ty := .object "SpeedRows$Step") (C := RX0) (T := TX0) (N := 9) hx hb hts in_X0 tyX0 tyX0_ok nmX0 hown hKK.1 hP hD hS 0 rfl rfl 7 (by decide) (hts _ q50) (fun _ h9 => h9) rfl (by decide +kernel) rfl rfl (Nat.le_of_ble_eq_true rfl) dX0_last_22 (fun H locs hP hD hS => ?_)
    have hP : va_P D vwCl ((ax, .inr (0, [.ref am, .ref ai, .ref ar, .ref aq, .int (nI g.1), .int (nI g.2.1), .ref sf, .ref qn, .int dn])) :: (am, .inl (cM, 2000, .inr (.inr (.inr (.inr fm))))) :: (ai, .inl (cI, 2001, .inl li)) :: (ar, .inl (cI, 2001, .inl ri)) :: (aq, .inl (cI, 2001, .inl sp)) :: (pl ++ [(qn, .inr (1, [.int x, .int y, .int z]))])) H := hP
    have hD : va_D A ((ax, .inr (0, [.ref am, .ref ai, .ref ar, .ref aq, .int (nI g.1), .int (nI g.2.1), .ref sf, .ref qn, .int dn])) :: (am, .inl (cM, 2000, .inr (.inr (.inr (.inr fm))))) :: (ai, .inl (cI, 2001, .inl li)) :: (ar, .inl (cI, 2001, .inl ri)) :: (aq, .inl (cI, 2001, .inl sp)) :: (pl ++ [(qn, .inr (1, [.int x, .int y, .int z]))])) := hD
    refine lv_iconst (v := (nI 1)) hx hb dX0_last_25 (by decide +kernel) ?_
    have hsg : sr_sLast g x y z = (g.1, g.2.1, g.2.2.1, (x, y, z), g.2.2.2.2) := if_pos h1
    exact W.zret hx hb hr rfl (fun t ht hW => ⟨⟨_, _, rfl, ⟨h1.symm, by rw [hsg]; exact ⟨am, ai, ar, aq, sf, qn, fm, li, ri, sp, dn, (pl ++ [(qn, .inr (1, [.int x, .int y, .int z]))]), rfl, i1.app, List.mem_append_right _ (List.mem_singleton.mpr rfl), fun i hi => (i3 i hi).app, i4, i5, i6⟩⟩, by rw [ht]; exact hP, hD⟩, hS.F ht⟩) hS.2.2 dX0_last_26
  · refine lv_iconst (v := (nI 0)) hx hb dX0_last_9 (by decide +kernel) ?_
    have hsg : sr_sLast g x y z = g := if_neg (by rw [c1]; decide)
    refine W.widen (k := 1) (n := 3) (by omega) (by omega) ?_
    exact W.zret hx hb hr rfl (fun t ht hW => ⟨⟨_, _, rfl, ⟨c1.symm, by rw [hsg]; exact ⟨am, ai, ar, aq, sf, sl, fm, li, ri, sp, dn, pl, rfl, i1, i2, i3, i4, i5, i6⟩⟩, by rw [ht]; exact hP, hD⟩, hS.F ht⟩) hS.2.2 dX0_last_10
set_option maxHeartbeats 4000000 in
set_option maxRecDepth 100000 in
/-- move(n, feed) -/
theorem sr_X0_move (l : Launch) (D : va_G) (cI cB cM : ClassId) (ax sz : Nat) (g : sr_Sg) (hg : sr_OK g) (w : va_W) (hw : sr_XR cI cM ax g w) (hD0 : va_D (fun _ => True) w) (n f : Int32) : sr_CtI l D cI cB cM yX0_move wsX0_move ({ frames := 3, cells := 1, slots := 4, locals := 80 } : Room) [.ref ax, .int n, .int f] w sz (fun r u => ∃ g', sr_pMove g n f r g' ∧ sr_XR cI cM ax g' u) 1 4 := by
  obtain ⟨am, ai, ar, aq, sf, sl, fm, li, ri, sp, dn, pl, rfl, i1, i2, i3, i4, i5, i6⟩ := hw
  refine Met.ofW (cc := cX0_move) (maxL := 3) (ret := (some .int)) (by decide) rfl ?_
  intro p e s m args below meth c s₁ B hml hv
  obtain ⟨rfl, hKK, hsz, hP⟩ := hv
  have hx := B.exec
  have hb := B.bytes
  have hr := B.returns
  have hts := atoms_spec (ws := wsX0_move) B.pre
  have hts : ∀ w ∈ lw_all, w.before _ s = true := fun w h => hts w (List.mem_cons_of_mem _ h)
  have hown : s.vm.findClass RX0 = some m.cls := findClass_of_methodNamed B.named
  have hlocks := B.notSynchronized
  subst hsz
  have hD := hD0.self (sz := s.heap.size)
  generalize hAe : va_A ((ax, .inr (0, [.ref am, .ref ai, .ref ar, .ref aq, .int (nI g.1), .int (nI g.2.1), .ref sf, .ref sl, .int dn])) :: (am, .inl (cM, 2000, .inr (.inr (.inr (.inr fm))))) :: (ai, .inl (cI, 2001, .inl li)) :: (ar, .inl (cI, 2001, .inl ri)) :: (aq, .inl (cI, 2001, .inl sp)) :: pl) s.heap.size = A at hD ⊢
  have hA : ∀ q : Nat, s.heap.size ≤ q → A q := fun q h => by rw [← hAe]; exact Or.inr h
  have hS : va_S A s.heap s.heap [] := va_S.rf
  have hP : va_P D vwCl ((ax, .inr (0, [.ref am, .ref ai, .ref ar, .ref aq, .int (nI g.1), .int (nI g.2.1), .ref sf, .ref sl, .int dn])) :: (am, .inl (cM, 2000, .inr (.inr (.inr (.inr fm))))) :: (ai, .inl (cI, 2001, .inl li)) :: (ar, .inl (cI, 2001, .inl ri)) :: (aq, .inl (cI, 2001, .inl sp)) :: pl) s.heap := hP
  have hl := lv_entry ([.ref ax, .int n, .int f]) (n := 3) (Nat.le_of_ble_eq_true rfl)
  rw [lg_entry_eq]
  generalize (lg_sl ([.ref ax, .int n, .int f]) ++ List.replicate (3 - (lg_sl ([.ref ax, .int n, .int f])).length) Slot.unset).toArray = ls at hl ⊢
  have hl : lv_has ls 3 [(0, .ref ax), (1, .int n), (2, .int f)] := hl
  have hg1 := hg.1
  have hgm := hg.2.2.2.2.2
  have hga := hg.2.2.1
  refine lv_iload_n hx hb dX0_move_0 rfl (lv_at hl 1 rfl) ?_
  refine lv_iconst (v := (nI 1)) hx hb dX0_move_1 (by decide +kernel) ?_
  refine lv_icmp_lt (tgt := 32) hx hb dX0_move_2 (by decide) (fun c1 => ?_) (fun c1 => ?_)
  · refine lv_iconst (v := (-1)) hx hb dX0_move_32 (by decide +kernel) ?_
    refine W.widen (k := 1) (n := 4) (by omega) (by omega) ?_
    exact W.iret hx hb hr (fun t ht hW => ⟨⟨_, _, rfl, ⟨g, Or.inr ⟨fun h => h.1 c1, rfl, rfl⟩, ⟨am, ai, ar, aq, sf, sl, fm, li, ri, sp, dn, pl, rfl, i1, i2, i3, i4, i5, i6⟩⟩, by rw [ht]; exact hP, hD⟩, hS.F ht⟩) hS.2.2 dX0_move_33
  refine lv_iload_n hx hb dX0_move_5 rfl (lv_at hl 1 rfl) ?_
  refine lv_ldc (v := nI 100000) hx hb hown (hts _ q86) dX0_move_6 ?_
  refine lv_icmp_gt (tgt := 32) hx hb dX0_move_8 (by decide) (fun c2 => ?_) (fun c2 => ?_)
  · refine lv_iconst (v := (-1)) hx hb dX0_move_32 (by decide +kernel) ?_
    refine W.widen (k := 1) (n := 4) (by omega) (by omega) ?_
    exact W.iret hx hb hr (fun t ht hW => ⟨⟨_, _, rfl, ⟨g, Or.inr ⟨fun h => h.2.1 c2, rfl, rfl⟩, ⟨am, ai, ar, aq, sf, sl, fm, li, ri, sp, dn, pl, rfl, i1, i2, i3, i4, i5, i6⟩⟩, by rw [ht]; exact hP, hD⟩, hS.F ht⟩) hS.2.2 dX0_move_33
  refine lv_iload_n hx hb dX0_move_11 rfl (lv_at hl 2 rfl) ?_
  refine lv_iconst (v := (nI 1)) hx hb dX0_move_12 (by decide +kernel) ?_
  refine lv_icmp_lt (tgt := 32) hx hb dX0_move_13 (by decide) (fun c3 => ?_) (fun c3 => ?_)
  · refine lv_iconst (v := (-1)) hx hb dX0_move_32 (by decide +kernel) ?_
    refine W.widen (k := 1) (n := 4) (by omega) (by omega) ?_
    exact W.iret hx hb hr (fun t ht hW => ⟨⟨_, _, rfl, ⟨g, Or.inr ⟨fun h => h.2.2.1 c3, rfl, rfl⟩, ⟨am, ai, ar, aq, sf, sl, fm, li, ri, sp, dn, pl, rfl, i1, i2, i3, i4, i5, i6⟩⟩, by rw [ht]; exact hP, hD⟩, hS.F ht⟩) hS.2.2 dX0_move_33
  refine lv_iload_n hx hb dX0_move_16 rfl (lv_at hl 2 rfl) ?_
  refine lv_ldc (v := nI 99999) hx hb hown (hts _ q87) dX0_move_17 ?_
  refine lv_icmp_gt (tgt := 32) hx hb dX0_move_19 (by decide) (fun c4 => ?_) (fun c4 => ?_)
  · refine lv_iconst (v := (-1)) hx hb dX0_move_32 (by decide +kernel) ?_
    refine W.widen (k := 1) (n := 4) (by omega) (by omega) ?_
    exact W.iret hx hb hr (fun t ht hW => ⟨⟨_, _, rfl, ⟨g, Or.inr ⟨fun h => h.2.2.2.1 c4, rfl, rfl⟩, ⟨am, ai, ar, aq, sf, sl, fm, li, ri, sp, dn, pl, rfl, i1, i2, i3, i4, i5, i6⟩⟩, by rw [ht]; exact hP, hD⟩, hS.F ht⟩) hS.2.2 dX0_move_33
  refine lv_aload_n hx hb dX0_move_22 rfl (lv_at hl 0 rfl) ?_
  refine va_get (D := D) (ci := 0) (v := .int (nI g.1)) (C := RX0) (T := TX0) (N := 9) hx hb hts in_X0 hown hKK.1 hP 0 rfl rfl 4 (by decide) (hts _ q47) (fun _ h9 => h9) rfl dX0_move_23 ?_
  refine lv_sipush (v := (nI 2000)) hx hb dX0_move_26 (by decide +kernel) ?_
  refine lv_icmp_ne (tgt := 34) hx hb dX0_move_29 (by decide) (fun c5 => ?_) (fun c5 => ?_)
  · have hmok : sr_mok g n f := ⟨c1, c2, c3, c4, fun q => c5 (by rw [q])⟩
    have hg2 : g.1 < 2000 := by have := hmok.2.2.2.2; omega
    have hnum := sr_mok_num hmok
    obtain ⟨j1, hj1⟩ : ∃ j : Nat, j = n.toNatClampNeg := ⟨_, rfl⟩
    obtain ⟨j2, hj2⟩ : ∃ j : Nat, j = f.toNatClampNeg := ⟨_, rfl⟩
    rw [← hj1, ← hj2] at hnum
    obtain ⟨en, hn1, hn2, ef, hf1, hf2⟩ := hnum
    have hgb : sr_sMove g n f = (g.1 + 1, g.2.1, g.2.2.1, g.2.2.2.1, va_up g.2.2.2.2 g.1 (j1, j2, g.2.2.1, g.2.2.2.1)) := by unfold sr_sMove; rw [← hj1, ← hj2]
    have hin0 : vp_in (nI g.1) 2000 := vp_in_nI hg2 (by omega)
    have hg31 : g.1 < 2 ^ 31 := by omega
    refine lv_aload_n hx hb dX0_move_34 rfl (lv_at hl 0 rfl) ?_
    refine va_get (D := D) (ci := 0) (v := .ref am) (C := RX0) (T := TX0) (N := 9) hx hb hts in_X0 hown hKK.1 hP 0 rfl rfl 0 (by decide) (hts _ q43) (fun _ h9 => h9) rfl dX0_move_35 ?_
    refine lv_aload_n hx hb dX0_move_38 rfl (lv_at hl 0 rfl) ?_
    refine va_get (D := D) (ci := 0) (v := .int (nI g.1)) (C := RX0) (T := TX0) (N := 9) hx hb hts in_X0 hown hKK.1 hP 0 rfl rfl 4 (by decide) (hts _ q47) (fun _ h9 => h9) rfl dX0_move_39 ?_
    refine va_new (ci := 3) (fs := [.int 0, .int 0, .null, .null]) (C := RX3) (T := TX3) (N := 4) hx hb hts in_X3 tyX3 tyX3_ok hown (hts _ q21) (hts _ q88) (hts _ q11) hKK.1 hP hD hS hA rfl (fun j hj => by rcases (show j = 0 ∨ j = 1 ∨ j = 2 ∨ j = 3 by omega) with rfl | rfl | rfl | rfl <;> rfl) (Nat.le_of_ble_eq_true rfl) (Nat.le_of_ble_eq_true rfl) dX0_move_42 (fun qn H hP hD hS => ?_)
    refine W.widen (k := 1) (n := 4) (by omega) (by omega) ?_
    have hP : va_P D vwCl ((ax, .inr (0, [.ref am, .ref ai, .ref ar, .ref aq, .int (nI g.1), .int (nI g.2.1), .ref sf, .ref sl, .int dn])) :: (am, .inl (cM, 2000, .inr (.inr (.inr (.inr fm))))) :: (ai, .inl (cI, 2001, .inl li)) :: (ar, .inl (cI, 2001, .inl ri)) :: (aq, .inl (cI, 2001, .inl sp)) :: (pl ++ [(qn, .inr (3, [.int 0, .int 0, .null, .null]))])) H := hP
    have hD : va_D A ((ax, .inr (0, [.ref am, .ref ai, .ref ar, .ref aq, .int (nI g.1), .int (nI g.2.1), .ref sf, .ref sl, .int dn])) :: (am, .inl (cM, 2000, .inr (.inr (.inr (.inr fm))))) :: (ai, .inl (cI, 2001, .inl li)) :: (ar, .inl (cI, 2001, .inl ri)) :: (aq, .inl (cI, 2001, .inl sp)) :: (pl ++ [(qn, .inr (3, [.int 0, .int 0, .null, .null]))])) := hD
    refine lv_dup hx hb dX0_move_45 rfl ?_
    refine lv_iload_n hx hb dX0_move_46 rfl (lv_at hl 1 rfl) ?_
    refine lv_iload_n hx hb dX0_move_47 rfl (lv_at hl 2 rfl) ?_
    refine lv_aload_n hx hb dX0_move_48 rfl (lv_at hl 0 rfl) ?_
    refine va_get (D := D) (ci := 0) (v := .ref sf) (C := RX0) (T := TX0) (N := 9) hx hb hts in_X0 hown hKK.1 hP 0 rfl rfl 6 (by decide) (hts _ q49) (fun _ h9 => h9) rfl dX0_move_49 ?_
    refine lv_aload_n hx hb dX0_move_52 rfl (lv_at hl 0 rfl) ?_
    refine va_get (D := D) (ci := 0) (v := .ref sl) (C := RX0) (T := TX0) (N := 9) hx hb hts in_X0 hown hKK.1 hP 0 rfl rfl 7 (by decide) (hts _ q50) (fun _ h9 => h9) rfl dX0_move_53 ?_
    have hP : va_P D vwCl (((ax, .inr (0, [.ref am, .ref ai, .ref ar, .ref aq, .int (nI g.1), .int (nI g.2.1), .ref sf, .ref sl, .int dn])) :: (am, .inl (cM, 2000, .inr (.inr (.inr (.inr fm))))) :: (ai, .inl (cI, 2001, .inl li)) :: (ar, .inl (cI, 2001, .inl ri)) :: (aq, .inl (cI, 2001, .inl sp)) :: pl) ++ [(qn, .inr (3, [.int 0, .int 0, .null, .null]))]) H := hP
    have hD : va_D A (((ax, .inr (0, [.ref am, .ref ai, .ref ar, .ref aq, .int (nI g.1), .int (nI g.2.1), .ref sf, .ref sl, .int dn])) :: (am, .inl (cM, 2000, .inr (.inr (.inr (.inr fm))))) :: (ai, .inl (cI, 2001, .inl li)) :: (ar, .inl (cI, 2001, .inl ri)) :: (aq, .inl (cI, 2001, .inl sp)) :: pl) ++ [(qn, .inr (3, [.int 0, .int 0, .null, .null]))]) := hD
    have hF := sr_fR hD hS hA
    refine va_callv (va_runIN (As := [.int n, .int f, .ref sf, .ref sl]) (rest := [.ref qn, .int (nI g.1), .ref am]) ⟨hx, hb, hml, hown, hts⟩ (sr_X3_init l D cI cB cM qn H.size n f sf sl 0 0 .null .null) ⟨va_cnB 4 hts (lw_meth q91) rfl rfl rfl hKK.2.2.2 (hts _ q11) (by decide +kernel) ⟨Nat.le_of_ble_eq_true rfl, Nat.le_of_ble_eq_true rfl⟩, rfl, hts _ q90⟩ (sr_preS hKK ⟨rfl, sr_Pr hP⟩) rfl rfl hl.1 rfl (lv_room (Nat.le_of_ble_eq_true rfl)) dX0_move_56 ⟨Nat.le_of_ble_eq_true rfl, Nat.le_of_ble_eq_true rfl⟩) hS (fun q _ h => hF q h) hF (fun u t H1 locs ht hvm hw1 hB hz1 hk1 hS => ?_)
    obtain ⟨hP1, hD1⟩ := hB
    rw [ht] at hP1
    subst hw1
    obtain ⟨hP, hD⟩ := sr_jR hP hD hk1 hF hP1 hD1
    generalize H1 = H at hP hS ⊢
    have hP : va_P D vwCl ((ax, .inr (0, [.ref am, .ref ai, .ref ar, .ref aq, .int (nI g.1), .int (nI g.2.1), .ref sf, .ref sl, .int dn])) :: (am, .inl (cM, 2000, .inr (.inr (.inr (.inr fm))))) :: (ai, .inl (cI, 2001, .inl li)) :: (ar, .inl (cI, 2001, .inl ri)) :: (aq, .inl (cI, 2001, .inl sp)) :: (pl ++ [(qn, .inr (3, [.int n, .int f, .ref sf, .ref sl]))])) H := hP
    have hD : va_D A ((ax, .inr (0, [.ref am, .ref ai, .ref ar, .ref aq, .int (nI g.1), .int (nI g.2.1), .ref sf, .ref sl, .int dn])) :: (am, .inl (cM, 2000, .inr (.inr (.inr (.inr fm))))) :: (ai, .inl (cI, 2001, .inl li)) :: (ar, .inl (cI, 2001, .inl ri)) :: (aq, .inl (cI, 2001, .inl sp)) :: (pl ++ [(qn, .inr (3, [.int n, .int f, .ref sf, .ref sl]))])) := hD
    have epl : (pl ++ [(qn, .inr (3, [.int n, .int f, .ref sf, .ref sl]))] : va_W) = (pl ++ [(qn, .inr (3, [.int (nI j1), .int (nI j2), .ref sf, .ref sl]))]) := by rw [← en, ← ef]
    rw [epl] at hP hD
    obtain ⟨pn, hpn⟩ : ∃ pn : va_W, pn = (pl ++ [(qn, .inr (3, [.int (nI j1), .int (nI j2), .ref sf, .ref sl]))]) := ⟨_, rfl⟩
    rw [← hpn] at hP hD
    have hmem : ((qn, .inr (3, [.int (nI j1), .int (nI j2), .ref sf, .ref sl])) : Nat × va_E) ∈ pn := by rw [hpn]; exact List.mem_append_right _ (List.mem_singleton.mpr rfl)
    have k1 : sr_stp pn sf g.2.2.1 := by rw [hpn]; exact i1.app
    have k2 : sr_stp pn sl g.2.2.2.1 := by rw [hpn]; exact i2.app
    have k3 : ∀ i, i < g.1 → sr_mvA pn (fm i) (g.2.2.2.2 i) := fun i hi => by rw [hpn]; exact (i3 i hi).app
    have hP : va_P D vwCl ((ax, .inr (0, [.ref am, .ref ai, .ref ar, .ref aq, .int (nI g.1), .int (nI g.2.1), .ref sf, .ref sl, .int dn])) :: (am, .inl (cM, 2000, .inr (.inr (.inr (.inr fm))))) :: (ai, .inl (cI, 2001, .inl li)) :: (ar, .inl (cI, 2001, .inl ri)) :: (aq, .inl (cI, 2001, .inl sp)) :: pn) H := hP
    have hD : va_D A ((ax, .inr (0, [.ref am, .ref ai, .ref ar, .ref aq, .int (nI g.1), .int (nI g.2.1), .ref sf, .ref sl, .int dn])) :: (am, .inl (cM, 2000, .inr (.inr (.inr (.inr fm))))) :: (ai, .inl (cI, 2001, .inl li)) :: (ar, .inl (cI, 2001, .inl ri)) :: (aq, .inl (cI, 2001, .inl sp)) :: pn) := hD
    obtain ⟨qk, hqk⟩ := List.getElem?_of_mem (show ((qn, .inr (3, [.int (nI j1), .int (nI j2), .ref sf, .ref sl])) : Nat × va_E) ∈ ((ax, .inr (0, [.ref am, .ref ai, .ref ar, .ref aq, .int (nI g.1), .int (nI g.2.1), .ref sf, .ref sl, .int dn])) :: (am, .inl (cM, 2000, .inr (.inr (.inr (.inr fm))))) :: (ai, .inl (cI, 2001, .inl li)) :: (ar, .inl (cI, 2001, .inl ri)) :: (aq, .inl (cI, 2001, .inl sp)) :: pn) from List.mem_cons_of_mem _ (List.mem_cons_of_mem _ (List.mem_cons_of_mem _ (List.mem_cons_of_mem _ (List.mem_cons_of_mem _ hmem)))))
    refine va_astq hx hb hKK.1 hP hD hS 1 2 qk 3 rfl rfl hqk rfl hin0 dX0_move_59 (fun H locs hP hD hS => ?_)
    rw [nI_clamp hg31] at hP hD
    have hP : va_P D vwCl ((ax, .inr (0, [.ref am, .ref ai, .ref ar, .ref aq, .int (nI g.1), .int (nI g.2.1), .ref sf, .ref sl, .int dn])) :: (am, .inl (cM, 2000, .inr (.inr (.inr (.inr (va_up fm g.1 (some qn))))))) :: (ai, .inl (cI, 2001, .inl li)) :: (ar, .inl (cI, 2001, .inl ri)) :: (aq, .inl (cI, 2001, .inl sp)) :: pn) H := hP
    have hD : va_D A ((ax, .inr (0, [.ref am, .ref ai, .ref ar, .ref aq, .int (nI g.1), .int (nI g.2.1), .ref sf, .ref sl, .int dn])) :: (am, .inl (cM, 2000, .inr (.inr (.inr (.inr (va_up fm g.1 (some qn))))))) :: (ai, .inl (cI, 2001, .inl li)) :: (ar, .inl (cI, 2001, .inl ri)) :: (aq, .inl (cI, 2001, .inl sp)) :: pn) := hD
    have m1 : ∀ i, i < g.1 → (va_up g.2.2.2.2 g.1 (j1, j2, g.2.2.1, g.2.2.2.1)) i = g.2.2.2.2 i := fun i hi => va_up_ne _ _ (by omega)
    have m2 : (va_up g.2.2.2.2 g.1 (j1, j2, g.2.2.1, g.2.2.2.1)) g.1 = (j1, j2, g.2.2.1, g.2.2.2.1) := va_up_self _ _ _
    have k4 : ∀ i, i < g.1 + 1 → sr_mvA pn ((va_up fm g.1 (some qn)) i) ((va_up g.2.2.2.2 g.1 (j1, j2, g.2.2.1, g.2.2.2.1)) i) := by
      intro i hi
      by_cases q1 : i = g.1
      · rw [q1, va_up_self, va_up_self]
        exact ⟨qn, sf, sl, rfl, hmem, k1, k2⟩
      · rw [va_up_ne _ _ q1, va_up_ne _ _ q1]
        exact k3 i (by omega)
    have hmk : ∀ i, i < g.1 + 1 → sr_okM ((va_up g.2.2.2.2 g.1 (j1, j2, g.2.2.1, g.2.2.2.1)) i) := by
      intro i hi
      by_cases q1 : i = g.1
      · rw [q1, va_up_self]
        exact ⟨hn1, hn2, hf1, hf2, hg.2.2.2.1, hg.2.2.2.2.1⟩
      · rw [va_up_ne _ _ q1]
        exact hgm i (by omega)
    have fin : ∀ (li ri : Nat → Int32) (H : Heap) (locs : List Loc) (ls : Array Slot), (∀ k, 0 < k → k < g.1 + 1 → li k = nI (sr_cor ((va_up g.2.2.2.2 g.1 (j1, j2, g.2.2.1, g.2.2.2.1)) (k - 1)) ((va_up g.2.2.2.2 g.1 (j1, j2, g.2.2.1, g.2.2.2.1)) k))) → (∀ k, k = 0 ∨ k < g.1 + 1 → ri k = nI (sr_ris g.2.1 (va_up g.2.2.2.2 g.1 (j1, j2, g.2.2.1, g.2.2.2.1)) k)) → va_P D vwCl ((ax, .inr (0, [.ref am, .ref ai, .ref ar, .ref aq, .int (nI g.1), .int (nI g.2.1), .ref sf, .ref sl, .int dn])) :: (am, .inl (cM, 2000, .inr (.inr (.inr (.inr (va_up fm g.1 (some qn))))))) :: (ai, .inl (cI, 2001, .inl li)) :: (ar, .inl (cI, 2001, .inl ri)) :: (aq, .inl (cI, 2001, .inl sp)) :: pn) H → va_D A ((ax, .inr (0, [.ref am, .ref ai, .ref ar, .ref aq, .int (nI g.1), .int (nI g.2.1), .ref sf, .ref sl, .int dn])) :: (am, .inl (cM, 2000, .inr (.inr (.inr (.inr (va_up fm g.1 (some qn))))))) :: (ai, .inl (cI, 2001, .inl li)) :: (ar, .inl (cI, 2001, .inl ri)) :: (aq, .inl (cI, 2001, .inl sp)) :: pn) → va_S A s.heap H locs → lv_has ls 3 [(0, .ref ax)] → W p l e (headSpec wsX0_move ({ frames := 3, cells := 1, slots := 4, locals := 80 } : Room)).room s m ([.ref ax, .int n, .int f] : List Value).toArray below meth c H locs 1 4 (MQ below (va_Qi (fun r u => ∃ g', sr_pMove g n f r g' ∧ sr_XR cI cM ax g' u) (sr_Bw D A) A) ([.ref ax, .int n, .int f] : List Value).toArray s 1 4 A) (F0 m 149 ls []) := by
      intro li ri H locs ls hli hri hP hD hS hl
      refine lv_aload_n hx hb dX0_move_149 rfl (lv_at hl 0 rfl) ?_
      refine lv_dup hx hb dX0_move_150 rfl ?_
      refine va_get (D := D) (ci := 0) (v := .int (nI g.1)) (C := RX0) (T := TX0) (N := 9) hx hb hts in_X0 hown hKK.1 hP 0 rfl rfl 4 (by decide) (hts _ q47) (fun _ h9 => h9) rfl dX0_move_151 ?_
      refine lv_iconst (v := (nI 1)) hx hb dX0_move_154 (by decide +kernel) ?_
      refine lv_iadd hx hb dX0_move_155 ?_
      refine sr_ti (y := (nI (g.1 + 1))) (nI_add _ _) ?_
      refine va_put (D := D) (ci := 0) (v := .int (nI (g.1 + 1))) (ty := .int) (C := RX0) (T := TX0) (N := 9) hx hb hts in_X0 tyX0 tyX0_ok nmX0 hown hKK.1 hP hD hS 0 rfl rfl 4 (by decide) (hts _ q47) (fun _ h9 => h9) rfl (by decide +kernel) rfl rfl (Nat.le_of_ble_eq_true rfl) dX0_move_156 (fun H locs hP hD hS => ?_)
      have hP : va_P D vwCl ((ax, .inr (0, [.ref am, .ref ai, .ref ar, .ref aq, .int (nI (g.1 + 1)), .int (nI g.2.1), .ref sf, .ref sl, .int dn])) :: (am, .inl (cM, 2000, .inr (.inr (.inr (.inr (va_up fm g.1 (some qn))))))) :: (ai, .inl (cI, 2001, .inl li)) :: (ar, .inl (cI, 2001, .inl ri)) :: (aq, .inl (cI, 2001, .inl sp)) :: pn) H := hP
      have hD : va_D A ((ax, .inr (0, [.ref am, .ref ai, .ref ar, .ref aq, .int (nI (g.1 + 1)), .int (nI g.2.1), .ref sf, .ref sl, .int dn])) :: (am, .inl (cM, 2000, .inr (.inr (.inr (.inr (va_up fm g.1 (some qn))))))) :: (ai, .inl (cI, 2001, .inl li)) :: (ar, .inl (cI, 2001, .inl ri)) :: (aq, .inl (cI, 2001, .inl sp)) :: pn) := hD
      refine lv_aload_n hx hb dX0_move_159 rfl (lv_at hl 0 rfl) ?_
      refine lv_iconst (v := (nI 0)) hx hb dX0_move_160 (by decide +kernel) ?_
      refine va_put (D := D) (ci := 0) (v := .int (nI 0)) (ty := .boolean) (C := RX0) (T := TX0) (N := 9) hx hb hts in_X0 tyX0 tyX0_ok nmX0 hown hKK.1 hP hD hS 0 rfl rfl 8 (by decide) (hts _ q51) (fun _ h9 => h9) rfl (by decide +kernel) rfl rfl (Nat.le_of_ble_eq_true rfl) dX0_move_161 (fun H locs hP hD hS => ?_)
      have hP : va_P D vwCl ((ax, .inr (0, [.ref am, .ref ai, .ref ar, .ref aq, .int (nI (g.1 + 1)), .int (nI g.2.1), .ref sf, .ref sl, .int (nI 0)])) :: (am, .inl (cM, 2000, .inr (.inr (.inr (.inr (va_up fm g.1 (some qn))))))) :: (ai, .inl (cI, 2001, .inl li)) :: (ar, .inl (cI, 2001, .inl ri)) :: (aq, .inl (cI, 2001, .inl sp)) :: pn) H := hP
      have hD : va_D A ((ax, .inr (0, [.ref am, .ref ai, .ref ar, .ref aq, .int (nI (g.1 + 1)), .int (nI g.2.1), .ref sf, .ref sl, .int (nI 0)])) :: (am, .inl (cM, 2000, .inr (.inr (.inr (.inr (va_up fm g.1 (some qn))))))) :: (ai, .inl (cI, 2001, .inl li)) :: (ar, .inl (cI, 2001, .inl ri)) :: (aq, .inl (cI, 2001, .inl sp)) :: pn) := hD
      refine lv_aload_n hx hb dX0_move_164 rfl (lv_at hl 0 rfl) ?_
      refine va_get (D := D) (ci := 0) (v := .int (nI (g.1 + 1))) (C := RX0) (T := TX0) (N := 9) hx hb hts in_X0 hown hKK.1 hP 0 rfl rfl 4 (by decide) (hts _ q47) (fun _ h9 => h9) rfl dX0_move_165 ?_
      exact W.iret hx hb hr (fun t ht hW => ⟨⟨_, _, rfl, ⟨(g.1 + 1, g.2.1, g.2.2.1, g.2.2.2.1, (va_up g.2.2.2.2 g.1 (j1, j2, g.2.2.1, g.2.2.2.1))), Or.inl ⟨hmok, rfl, hgb.symm⟩, am, ai, ar, aq, sf, sl, (va_up fm g.1 (some qn)), li, ri, sp, nI 0, pn, rfl, k1, k2, k4, hli, hri, Or.inl rfl⟩, by rw [ht]; exact hP, hD⟩, hS.F ht⟩) hS.2.2 dX0_move_168
    refine lv_aload_n hx hb dX0_move_60 rfl (lv_at hl 0 rfl) ?_
    refine va_get (D := D) (ci := 0) (v := .int (nI g.1)) (C := RX0) (T := TX0) (N := 9) hx hb hts in_X0 hown hKK.1 hP 0 rfl rfl 4 (by decide) (hts _ q47) (fun _ h9 => h9) rfl dX0_move_61 ?_
    refine lv_if_le (tgt := 149) hx hb dX0_move_64 (by decide) (fun c6 => ?_) (fun c6 => ?_)
    · have h0 : g.1 = 0 := by
        rcases Nat.eq_zero_or_pos g.1 with q | q
        · exact q
        · exact absurd c6 (nI_nle q hg31)
      exact fin li ri H locs ls (fun k h1 h2 => absurd h1 (by omega)) (fun k hk => by rw [show k = 0 by rcases hk with q | q <;> omega, i5 0 (Or.inl rfl)]; rfl) hP hD hS (lv_sub hl [0] rfl)
    · have h0 : 0 < g.1 := Nat.pos_of_ne_zero (fun q => c6 (by rw [q]; decide +kernel))
      have hpred : nI g.1 - nI 1 = nI (g.1 - 1) := pk_sub h0
      obtain ⟨q, f1, f2, e1, e2, e3, e4⟩ := k4 (g.1 - 1) (by omega)
      have hin1 : vp_in (nI g.1) 2001 := vp_in_nI (by omega) (by omega)
      have hin2 : vp_in (nI (g.1 - 1)) 2001 := vp_in_nI (by omega) (by omega)
      have hin3 : vp_in (nI (g.1 - 1)) 2000 := vp_in_nI (by omega) (by omega)
      have hb1 := sr_ris_le (acc := g.2.1) hmk (g.1 - 1) (by omega)
      have hb2 := hmk (g.1 - 1) (by omega)
      have hb3 := hmk g.1 (by omega)
      have hc2 := sr_cor_le hb2 hb3
      have hr2 := sr_re_lt hga hb1 hb2.2.1
      have hmem2 : ((qn, .inr (3, [.int (nI ((va_up g.2.2.2.2 g.1 (j1, j2, g.2.2.1, g.2.2.2.1)) g.1).1), .int (nI ((va_up g.2.2.2.2 g.1 (j1, j2, g.2.2.1, g.2.2.2.1)) g.1).2.1), .ref sf, .ref sl])) : Nat × va_E) ∈ pn := by rw [m2]; exact hmem
      have kf : sr_stp pn sf ((va_up g.2.2.2.2 g.1 (j1, j2, g.2.2.1, g.2.2.2.1)) g.1).2.2.1 := by rw [m2]; exact k1
      have hPc := ((sr_P1 hP (List.mem_cons_of_mem _ (List.mem_cons_of_mem _ (List.mem_cons_of_mem _ (List.mem_cons_of_mem _ (List.mem_cons_of_mem _ e2)))))).app (sr_P1 hP (List.mem_cons_of_mem _ (List.mem_cons_of_mem _ (List.mem_cons_of_mem _ (List.mem_cons_of_mem _ (List.mem_cons_of_mem _ hmem2))))))).app ((sr_P1 hP (List.mem_cons_of_mem _ (List.mem_cons_of_mem _ (List.mem_cons_of_mem _ (List.mem_cons_of_mem _ (List.mem_cons_of_mem _ e4)))))).app (sr_P1 hP (List.mem_cons_of_mem _ (List.mem_cons_of_mem _ (List.mem_cons_of_mem _ (List.mem_cons_of_mem _ (List.mem_cons_of_mem _ kf)))))))
      refine lv_aload_n hx hb dX0_move_67 rfl (lv_at hl 0 rfl) ?_
      refine va_get (D := D) (ci := 0) (v := .ref ai) (C := RX0) (T := TX0) (N := 9) hx hb hts in_X0 hown hKK.1 hP 0 rfl rfl 1 (by decide) (hts _ q44) (fun _ h9 => h9) rfl dX0_move_68 ?_
      refine lv_aload_n hx hb dX0_move_71 rfl (lv_at hl 0 rfl) ?_
      refine va_get (D := D) (ci := 0) (v := .int (nI g.1)) (C := RX0) (T := TX0) (N := 9) hx hb hts in_X0 hown hKK.1 hP 0 rfl rfl 4 (by decide) (hts _ q47) (fun _ h9 => h9) rfl dX0_move_72 ?_
      refine lv_aload_n hx hb dX0_move_75 rfl (lv_at hl 0 rfl) ?_
      refine va_get (D := D) (ci := 0) (v := .ref am) (C := RX0) (T := TX0) (N := 9) hx hb hts in_X0 hown hKK.1 hP 0 rfl rfl 0 (by decide) (hts _ q43) (fun _ h9 => h9) rfl dX0_move_76 ?_
      refine lv_aload_n hx hb dX0_move_79 rfl (lv_at hl 0 rfl) ?_
      refine va_get (D := D) (ci := 0) (v := .int (nI g.1)) (C := RX0) (T := TX0) (N := 9) hx hb hts in_X0 hown hKK.1 hP 0 rfl rfl 4 (by decide) (hts _ q47) (fun _ h9 => h9) rfl dX0_move_80 ?_
      refine lv_iconst (v := (nI 1)) hx hb dX0_move_83 (by decide +kernel) ?_
      refine lv_isub hx hb dX0_move_84 ?_
      refine sr_ti (y := (nI (g.1 - 1))) (hpred) ?_
      refine va_aldq hx hb hKK.1 hP 1 2 rfl rfl (hin3) dX0_move_85 ?_
      refine sr_tv (y := .ref q) (by rw [nI_clamp (by omega), e1]; rfl) ?_
      refine lv_aload_n hx hb dX0_move_86 rfl (lv_at hl 0 rfl) ?_
      refine va_get (D := D) (ci := 0) (v := .ref am) (C := RX0) (T := TX0) (N := 9) hx hb hts in_X0 hown hKK.1 hP 0 rfl rfl 0 (by decide) (hts _ q43) (fun _ h9 => h9) rfl dX0_move_87 ?_
      refine lv_aload_n hx hb dX0_move_90 rfl (lv_at hl 0 rfl) ?_
      refine va_get (D := D) (ci := 0) (v := .int (nI g.1)) (C := RX0) (T := TX0) (N := 9) hx hb hts in_X0 hown hKK.1 hP 0 rfl rfl 4 (by decide) (hts _ q47) (fun _ h9 => h9) rfl dX0_move_91 ?_
      refine va_aldq hx hb hKK.1 hP 1 2 rfl rfl (hin0) dX0_move_94 ?_
      refine sr_tv (y := .ref qn) (by rw [nI_clamp hg31, va_up_self]; rfl) ?_
      refine vp_callSi (W.runS (As := [.ref q, .ref qn]) (rest := [.int (nI g.1), .ref ai]) ⟨hx, hb, hml, hown, hts⟩ (sr_X0_corner l D cI cB cM q qn f1 f2 sf sl ((va_up g.2.2.2.2 g.1 (j1, j2, g.2.2.1, g.2.2.2.1)) (g.1 - 1)) ((va_up g.2.2.2.2 g.1 (j1, j2, g.2.2.1, g.2.2.2.1)) g.1) hb2 hb3) (va_cwS 2 hts (lw_S q106 q107 q7 q108) rfl rfl rfl (by decide +kernel) ⟨Nat.le_of_ble_eq_true rfl, Nat.le_of_ble_eq_true rfl⟩) (sr_preS hKK hPc) rfl rfl hl.1 rfl (lv_room (Nat.le_of_ble_eq_true rfl)) dX0_move_95 ⟨Nat.le_of_ble_eq_true rfl, Nat.le_of_ble_eq_true rfl⟩) (fun r1 hr1 => ?_)
      have hr1 := hr1.symm
      subst hr1
      refine va_iast hx hb hKK.1 hP hD hS 2 0 rfl rfl (hin1) dX0_move_98 (fun H locs hP hD hS => ?_)
      rw [nI_clamp hg31] at hP hD
      have hP : va_P D vwCl ((ax, .inr (0, [.ref am, .ref ai, .ref ar, .ref aq, .int (nI g.1), .int (nI g.2.1), .ref sf, .ref sl, .int dn])) :: (am, .inl (cM, 2000, .inr (.inr (.inr (.inr (va_up fm g.1 (some qn))))))) :: (ai, .inl (cI, 2001, .inl (upd li g.1 (nI (sr_cor ((va_up g.2.2.2.2 g.1 (j1, j2, g.2.2.1, g.2.2.2.1)) (g.1 - 1)) ((va_up g.2.2.2.2 g.1 (j1, j2, g.2.2.1, g.2.2.2.1)) g.1)))))) :: (ar, .inl (cI, 2001, .inl ri)) :: (aq, .inl (cI, 2001, .inl sp)) :: pn) H := hP
      have hD : va_D A ((ax, .inr (0, [.ref am, .ref ai, .ref ar, .ref aq, .int (nI g.1), .int (nI g.2.1), .ref sf, .ref sl, .int dn])) :: (am, .inl (cM, 2000, .inr (.inr (.inr (.inr (va_up fm g.1 (some qn))))))) :: (ai, .inl (cI, 2001, .inl (upd li g.1 (nI (sr_cor ((va_up g.2.2.2.2 g.1 (j1, j2, g.2.2.1, g.2.2.2.1)) (g.1 - 1)) ((va_up g.2.2.2.2 g.1 (j1, j2, g.2.2.1, g.2.2.2.1)) g.1)))))) :: (ar, .inl (cI, 2001, .inl ri)) :: (aq, .inl (cI, 2001, .inl sp)) :: pn) := hD
      have hPx := hP.sub (ws' := [(ax, .inr (0, [.ref am, .ref ai, .ref ar, .ref aq, .int (nI g.1), .int (nI g.2.1), .ref sf, .ref sl, .int dn]))]) [0] rfl
      have hPq := sr_P1 hP (List.mem_cons_of_mem _ (List.mem_cons_of_mem _ (List.mem_cons_of_mem _ (List.mem_cons_of_mem _ (List.mem_cons_of_mem _ e2)))))
      refine lv_aload_n hx hb dX0_move_99 rfl (lv_at hl 0 rfl) ?_
      refine va_get (D := D) (ci := 0) (v := .ref ar) (C := RX0) (T := TX0) (N := 9) hx hb hts in_X0 hown hKK.1 hP 0 rfl rfl 2 (by decide) (hts _ q45) (fun _ h9 => h9) rfl dX0_move_100 ?_
      refine lv_aload_n hx hb dX0_move_103 rfl (lv_at hl 0 rfl) ?_
      refine va_get (D := D) (ci := 0) (v := .int (nI g.1)) (C := RX0) (T := TX0) (N := 9) hx hb hts in_X0 hown hKK.1 hP 0 rfl rfl 4 (by decide) (hts _ q47) (fun _ h9 => h9) rfl dX0_move_104 ?_
      refine lv_aload_n hx hb dX0_move_107 rfl (lv_at hl 0 rfl) ?_
      refine va_get (D := D) (ci := 0) (v := .ref ai) (C := RX0) (T := TX0) (N := 9) hx hb hts in_X0 hown hKK.1 hP 0 rfl rfl 1 (by decide) (hts _ q44) (fun _ h9 => h9) rfl dX0_move_108 ?_
      refine lv_aload_n hx hb dX0_move_111 rfl (lv_at hl 0 rfl) ?_
      refine va_get (D := D) (ci := 0) (v := .int (nI g.1)) (C := RX0) (T := TX0) (N := 9) hx hb hts in_X0 hown hKK.1 hP 0 rfl rfl 4 (by decide) (hts _ q47) (fun _ h9 => h9) rfl dX0_move_112 ?_
      refine va_iald hx hb hKK.1 hP 2 0 rfl rfl (hin1) dX0_move_115 ?_
      refine sr_ti (y := (nI (sr_cor ((va_up g.2.2.2.2 g.1 (j1, j2, g.2.2.1, g.2.2.2.1)) (g.1 - 1)) ((va_up g.2.2.2.2 g.1 (j1, j2, g.2.2.1, g.2.2.2.1)) g.1)))) (by rw [nI_clamp hg31, pk_us]) ?_
      refine lv_aload_n hx hb dX0_move_116 rfl (lv_at hl 0 rfl) ?_
      refine lv_aload_n hx hb dX0_move_117 rfl (lv_at hl 0 rfl) ?_
      refine va_get (D := D) (ci := 0) (v := .ref ar) (C := RX0) (T := TX0) (N := 9) hx hb hts in_X0 hown hKK.1 hP 0 rfl rfl 2 (by decide) (hts _ q45) (fun _ h9 => h9) rfl dX0_move_118 ?_
      refine lv_aload_n hx hb dX0_move_121 rfl (lv_at hl 0 rfl) ?_
      refine va_get (D := D) (ci := 0) (v := .int (nI g.1)) (C := RX0) (T := TX0) (N := 9) hx hb hts in_X0 hown hKK.1 hP 0 rfl rfl 4 (by decide) (hts _ q47) (fun _ h9 => h9) rfl dX0_move_122 ?_
      refine lv_iconst (v := (nI 1)) hx hb dX0_move_125 (by decide +kernel) ?_
      refine lv_isub hx hb dX0_move_126 ?_
      refine sr_ti (y := (nI (g.1 - 1))) (hpred) ?_
      refine va_iald hx hb hKK.1 hP 3 0 rfl rfl (hin2) dX0_move_127 ?_
      refine sr_ti (y := (nI (sr_ris g.2.1 (va_up g.2.2.2.2 g.1 (j1, j2, g.2.2.1, g.2.2.2.1)) (g.1 - 1)))) (by rw [nI_clamp (by omega), i5 (g.1 - 1) (Or.inr (by omega)), sr_ris_cong (n := g.1) m1 (g.1 - 1) (by omega)]) ?_
      refine lv_aload_n hx hb dX0_move_128 rfl (lv_at hl 0 rfl) ?_
      refine va_get (D := D) (ci := 0) (v := .ref am) (C := RX0) (T := TX0) (N := 9) hx hb hts in_X0 hown hKK.1 hP 0 rfl rfl 0 (by decide) (hts _ q43) (fun _ h9 => h9) rfl dX0_move_129 ?_
      refine lv_aload_n hx hb dX0_move_132 rfl (lv_at hl 0 rfl) ?_
      refine va_get (D := D) (ci := 0) (v := .int (nI g.1)) (C := RX0) (T := TX0) (N := 9) hx hb hts in_X0 hown hKK.1 hP 0 rfl rfl 4 (by decide) (hts _ q47) (fun _ h9 => h9) rfl dX0_move_133 ?_
      refine lv_iconst (v := (nI 1)) hx hb dX0_move_136 (by decide +kernel) ?_
      refine lv_isub hx hb dX0_move_137 ?_
      refine sr_ti (y := (nI (g.1 - 1))) (hpred) ?_
      refine va_aldq hx hb hKK.1 hP 1 2 rfl rfl (hin3) dX0_move_138 ?_
      refine sr_tv (y := .ref q) (by rw [nI_clamp (by omega), e1]; rfl) ?_
      refine vp_callSi (W.runV (As := []) (rest := [.int (nI (sr_ris g.2.1 (va_up g.2.2.2.2 g.1 (j1, j2, g.2.2.1, g.2.2.2.1)) (g.1 - 1))), .ref ax, .int (nI (sr_cor ((va_up g.2.2.2.2 g.1 (j1, j2, g.2.2.1, g.2.2.2.1)) (g.1 - 1)) ((va_up g.2.2.2.2 g.1 (j1, j2, g.2.2.1, g.2.2.2.1)) g.1))), .int (nI g.1), .ref ar]) ⟨hx, hb, hml, hown, hts⟩ (sr_X3_n l D cI cB cM q (nI ((va_up g.2.2.2.2 g.1 (j1, j2, g.2.2.1, g.2.2.2.1)) (g.1 - 1)).1) (nI ((va_up g.2.2.2.2 g.1 (j1, j2, g.2.2.1, g.2.2.2.1)) (g.1 - 1)).2.1) f1 f2) (cwV 0 hts (lw_V q131 q132 q133 q11 q134) rfl rfl rfl (by decide +kernel) ⟨Nat.le_of_ble_eq_true rfl, Nat.le_of_ble_eq_true rfl⟩) (sr_preV hKK hPq (va_recv hKK.1 hPq (ci := 3) (q0 := 0) rfl rfl)) rfl rfl hl.1 rfl (lv_room (Nat.le_of_ble_eq_true rfl)) dX0_move_139 ⟨Nat.le_of_ble_eq_true rfl, Nat.le_of_ble_eq_true rfl⟩) (fun r2 hr2 => ?_)
      have hr2 := hr2.symm
      subst hr2
      refine vp_callSi (W.runV (As := [.int (nI (sr_ris g.2.1 (va_up g.2.2.2.2 g.1 (j1, j2, g.2.2.1, g.2.2.2.1)) (g.1 - 1))), .int (nI ((va_up g.2.2.2.2 g.1 (j1, j2, g.2.2.1, g.2.2.2.1)) (g.1 - 1)).1)]) (rest := [.int (nI (sr_cor ((va_up g.2.2.2.2 g.1 (j1, j2, g.2.2.1, g.2.2.2.1)) (g.1 - 1)) ((va_up g.2.2.2.2 g.1 (j1, j2, g.2.2.1, g.2.2.2.1)) g.1))), .int (nI g.1), .ref ar]) ⟨hx, hb, hml, hown, hts⟩ (sr_X0_reached l D cI cB cM ax (.ref am) (.ref ai) (.ref ar) (.ref aq) (.int (nI g.1)) (.ref sf) (.ref sl) (.int dn) g.2.1 (sr_ris g.2.1 (va_up g.2.2.2.2 g.1 (j1, j2, g.2.2.1, g.2.2.2.1)) (g.1 - 1)) ((va_up g.2.2.2.2 g.1 (j1, j2, g.2.2.1, g.2.2.2.1)) (g.1 - 1)).1 hga hb1 hb2.2.1) (cwV 2 hts (lw_V q135 q137 qs0 q7 q138) rfl rfl rfl (by decide +kernel) ⟨Nat.le_of_ble_eq_true rfl, Nat.le_of_ble_eq_true rfl⟩) (sr_preV hKK hPx (va_recv hKK.1 hPx (ci := 0) (q0 := 0) rfl rfl)) rfl rfl hl.1 rfl (lv_room (Nat.le_of_ble_eq_true rfl)) dX0_move_142 ⟨Nat.le_of_ble_eq_true rfl, Nat.le_of_ble_eq_true rfl⟩) (fun r3 hr3 => ?_)
      have hr3 := hr3.symm
      subst hr3
      refine va_mmin hx hb (by rw [hml]; exact hl.1.symm) hown (hts _ q128) (hts _ q129) (hts _ q12) (hts _ q130) (Nat.le_of_ble_eq_true rfl) (Nat.le_of_ble_eq_true rfl) (Nat.le_of_ble_eq_true rfl) (Nat.le_of_ble_eq_true rfl) dX0_move_145 ?_
      have hris : sr_ris g.2.1 (va_up g.2.2.2.2 g.1 (j1, j2, g.2.2.1, g.2.2.2.1)) g.1 = min (sr_cor ((va_up g.2.2.2.2 g.1 (j1, j2, g.2.2.1, g.2.2.2.1)) (g.1 - 1)) ((va_up g.2.2.2.2 g.1 (j1, j2, g.2.2.1, g.2.2.2.1)) g.1)) (sr_re g.2.1 (sr_ris g.2.1 (va_up g.2.2.2.2 g.1 (j1, j2, g.2.2.1, g.2.2.2.1)) (g.1 - 1)) ((va_up g.2.2.2.2 g.1 (j1, j2, g.2.2.1, g.2.2.2.1)) (g.1 - 1)).1) := by
          generalize (va_up g.2.2.2.2 g.1 (j1, j2, g.2.2.1, g.2.2.2.1)) = mm
          obtain ⟨k0, hk0⟩ : ∃ k0, g.1 = k0 + 1 := ⟨g.1 - 1, by omega⟩
          rw [hk0, sr_ris]
          rfl
      refine sr_ti (y := (nI (sr_ris g.2.1 (va_up g.2.2.2.2 g.1 (j1, j2, g.2.2.1, g.2.2.2.1)) g.1))) (by rw [hris]; exact sr_min (by omega) (by omega)) ?_
      refine va_iast hx hb hKK.1 hP hD hS 3 0 rfl rfl (hin1) dX0_move_148 (fun H locs hP hD hS => ?_)
      rw [nI_clamp hg31] at hP hD
      have hP : va_P D vwCl ((ax, .inr (0, [.ref am, .ref ai, .ref ar, .ref aq, .int (nI g.1), .int (nI g.2.1), .ref sf, .ref sl, .int dn])) :: (am, .inl (cM, 2000, .inr (.inr (.inr (.inr (va_up fm g.1 (some qn))))))) :: (ai, .inl (cI, 2001, .inl (upd li g.1 (nI (sr_cor ((va_up g.2.2.2.2 g.1 (j1, j2, g.2.2.1, g.2.2.2.1)) (g.1 - 1)) ((va_up g.2.2.2.2 g.1 (j1, j2, g.2.2.1, g.2.2.2.1)) g.1)))))) :: (ar, .inl (cI, 2001, .inl (upd ri g.1 (nI (sr_ris g.2.1 (va_up g.2.2.2.2 g.1 (j1, j2, g.2.2.1, g.2.2.2.1)) g.1))))) :: (aq, .inl (cI, 2001, .inl sp)) :: pn) H := hP
      have hD : va_D A ((ax, .inr (0, [.ref am, .ref ai, .ref ar, .ref aq, .int (nI g.1), .int (nI g.2.1), .ref sf, .ref sl, .int dn])) :: (am, .inl (cM, 2000, .inr (.inr (.inr (.inr (va_up fm g.1 (some qn))))))) :: (ai, .inl (cI, 2001, .inl (upd li g.1 (nI (sr_cor ((va_up g.2.2.2.2 g.1 (j1, j2, g.2.2.1, g.2.2.2.1)) (g.1 - 1)) ((va_up g.2.2.2.2 g.1 (j1, j2, g.2.2.1, g.2.2.2.1)) g.1)))))) :: (ar, .inl (cI, 2001, .inl (upd ri g.1 (nI (sr_ris g.2.1 (va_up g.2.2.2.2 g.1 (j1, j2, g.2.2.1, g.2.2.2.1)) g.1))))) :: (aq, .inl (cI, 2001, .inl sp)) :: pn) := hD
      refine fin _ _ H locs ls (fun k h1 h2 => ?_) (fun k hk => ?_) hP hD hS (lv_sub hl [0] rfl)
      · by_cases q1 : k = g.1
        · rw [q1, pk_us]
        · rw [pk_un q1, m1 k (by omega), m1 (k - 1) (by omega)]; exact i4 k h1 (by omega)
      · by_cases q1 : k = g.1
        · rw [q1, pk_us]
        · rw [pk_un q1, i5 k (by omega), sr_ris_cong (n := g.1) m1 k (by omega)]
  · refine lv_iconst (v := (-1)) hx hb dX0_move_32 (by decide +kernel) ?_
    refine W.widen (k := 1) (n := 4) (by omega) (by omega) ?_
    exact W.iret hx hb hr (fun t ht hW => ⟨⟨_, _, rfl, ⟨g, Or.inr ⟨fun h => h.2.2.2.2 ((nI_eq (by omega) (by decide)).mp c5), rfl, rfl⟩, ⟨am, ai, ar, aq, sf, sl, fm, li, ri, sp, dn, pl, rfl, i1, i2, i3, i4, i5, i6⟩⟩, by rw [ht]; exact hP, hD⟩, hS.F ht⟩) hS.2.2 dX0_move_33
set_option maxHeartbeats 4000000 in
set_option maxRecDepth 100000 in
/-- SpeedRows(): the start -/
theorem sr_X0_init (l : Launch) (D : va_G) (cI cB cM : ClassId) (ax sz : Nat) : sr_CtV l D cI cB cM yX0_init wsX0_init ({ frames := 3, cells := 6, slots := 8009, locals := 80 } : Room) [.ref ax] [(ax, .inr (0, [.null, .null, .null, .null, .int 0, .int 0, .null, .null, .int 0]))] sz (fun u => sr_XR cI cM ax sr_g0 u) 6 8009 := by
  have hD0 : va_D (fun _ => True) [(ax, .inr (0, [.null, .null, .null, .null, .int 0, .int 0, .null, .null, .int 0]))] := ⟨fun i j p q hi hj _ => by have h1 := (List.getElem?_eq_some_iff.mp hi).1; have h2 := (List.getElem?_eq_some_iff.mp hj).1; simp only [List.length_cons, List.length_nil] at h1 h2; omega, fun _ _ _ => trivial⟩
  refine Met.ofW (cc := cX0_init) (maxL := 1) (ret := none) (by decide) rfl ?_
  intro p e s m args below meth c s₁ B hml hv
  obtain ⟨rfl, hKK, hsz, hP⟩ := hv
  have hx := B.exec
  have hb := B.bytes
  have hr := B.returns
  have hts := atoms_spec (ws := wsX0_init) B.pre
  have hts : ∀ w ∈ lw_all, w.before _ s = true := fun w h => hts w (List.mem_cons_of_mem _ h)
  have hown : s.vm.findClass RX0 = some m.cls := findClass_of_methodNamed B.named
  have hlocks := B.notSynchronized
  have hin : meth.name = "<init>" := (name_of_methodNamed B.named B.method).1
  subst hsz
  have hD := hD0.self (sz := s.heap.size)
  generalize hAe : va_A [(ax, .inr (0, [.null, .null, .null, .null, .int 0, .int 0, .null, .null, .int 0]))] s.heap.size = A at hD ⊢
  have hA : ∀ q : Nat, s.heap.size ≤ q → A q := fun q h => by rw [← hAe]; exact Or.inr h
  have hS : va_S A s.heap s.heap [] := va_S.rf
  have hP : va_P D vwCl [(ax, .inr (0, [.null, .null, .null, .null, .int 0, .int 0, .null, .null, .int 0]))] s.heap := hP
  have hl := lv_entry ([.ref ax]) (n := 1) (Nat.le_of_ble_eq_true rfl)
  rw [lg_entry_eq]
  generalize (lg_sl ([.ref ax]) ++ List.replicate (1 - (lg_sl ([.ref ax])).length) Slot.unset).toArray = ls at hl ⊢
  have hl : lv_has ls 1 [(0, .ref ax)] := hl
  refine lv_aload_n hx hb dX0_init_0 rfl (lv_at hl 0 rfl) ?_
  refine W.objInit hx hb hown (hts _ q18) (hts _ q19) (hts _ q20) rfl (by rw [hml]; exact hl.1) rfl dX0_init_1 (Nat.le_of_ble_eq_true rfl) (Nat.le_of_ble_eq_true rfl) ?_
  refine W.eq (g2 := F0 m 4 ls []) rfl ?_
  refine lv_aload_n hx hb dX0_init_4 rfl (lv_at hl 0 rfl) ?_
  refine lv_sipush (v := (nI 2000)) hx hb dX0_init_5 (by decide +kernel) ?_
  refine va_newq (N' := 2000) hx hb hown (hts _ q21) hKK.2.1 hKK.1 hP hD hS hA (by decide +kernel) (by decide +kernel) (by decide) (Nat.le_of_ble_eq_true rfl) (Nat.le_of_ble_eq_true rfl) dX0_init_8 (fun am cA H hK1 hP hD hS => ?_)
  have ecA : cA = cM := sr_ra_o (hK1.2 3 _ rfl).2 (hKK.1.2 2 _ rfl).2
  rw [ecA] at hP hD
  have hP : va_P D vwCl [(ax, .inr (0, [.null, .null, .null, .null, .int 0, .int 0, .null, .null, .int 0])), (am, .inl (cM, 2000, .inr (.inr (.inr (.inr (fun _ => none))))))] H := hP
  have hD : va_D A [(ax, .inr (0, [.null, .null, .null, .null, .int 0, .int 0, .null, .null, .int 0])), (am, .inl (cM, 2000, .inr (.inr (.inr (.inr (fun _ => none))))))] := hD
  refine W.widen (k := 1) (n := 2000) (by omega) (by omega) ?_
  refine va_putF (D := D) (ci := 0) (v := .ref am) (ty := .array (.object "SpeedRows$Move")) (C := RX0) (T := TX0) (N := 9) hx hb hts in_X0 tyX0 tyX0_ok nmX0 hown hKK.1 hP hD hS 0 rfl rfl 0 (by decide) (hts _ q43) (fun _ h9 => h9) rfl hin rfl (by decide +kernel) rfl rfl (Nat.le_of_ble_eq_true rfl) dX0_init_11 (fun H locs hP hD hS => ?_)
  have hP : va_P D vwCl [(ax, .inr (0, [.ref am, .null, .null, .null, .int 0, .int 0, .null, .null, .int 0])), (am, .inl (cM, 2000, .inr (.inr (.inr (.inr (fun _ => none))))))] H := hP
  have hD : va_D A [(ax, .inr (0, [.ref am, .null, .null, .null, .int 0, .int 0, .null, .null, .int 0])), (am, .inl (cM, 2000, .inr (.inr (.inr (.inr (fun _ => none))))))] := hD
  refine lv_aload_n hx hb dX0_init_14 rfl (lv_at hl 0 rfl) ?_
  refine lv_sipush (v := (nI 2001)) hx hb dX0_init_15 (by decide +kernel) ?_
  refine va_newa (atype := .int) (N' := 2001) (a0 := (2001, .inl (fun _ => 0))) (ty := .int) hx hb (hts _ q42) rfl hKK.1 hP hD hS hA (fun _ => rfl) (by decide +kernel) (by decide +kernel) (by decide) (Nat.le_of_ble_eq_true rfl) (Nat.le_of_ble_eq_true rfl) dX0_init_18 (fun ai cai H hK1 hP hD hS => ?_)
  have eai : cai = cI := sr_ra_i (hK1.2 3 _ rfl).2 (hKK.1.2 0 _ rfl).2
  rw [eai] at hP hD
  have hP : va_P D vwCl [(ax, .inr (0, [.ref am, .null, .null, .null, .int 0, .int 0, .null, .null, .int 0])), (am, .inl (cM, 2000, .inr (.inr (.inr (.inr (fun _ => none)))))), (ai, .inl (cI, 2001, .inl (fun _ => 0)))] H := hP
  have hD : va_D A [(ax, .inr (0, [.ref am, .null, .null, .null, .int 0, .int 0, .null, .null, .int 0])), (am, .inl (cM, 2000, .inr (.inr (.inr (.inr (fun _ => none)))))), (ai, .inl (cI, 2001, .inl (fun _ => 0)))] := hD
  refine W.widen (k := 2) (n := 4001) (by omega) (by omega) ?_
  refine va_putF (D := D) (ci := 0) (v := .ref ai) (ty := .array .int) (C := RX0) (T := TX0) (N := 9) hx hb hts in_X0 tyX0 tyX0_ok nmX0 hown hKK.1 hP hD hS 0 rfl rfl 1 (by decide) (hts _ q44) (fun _ h9 => h9) rfl hin rfl (by decide +kernel) rfl rfl (Nat.le_of_ble_eq_true rfl) dX0_init_20 (fun H locs hP hD hS => ?_)
  have hP : va_P D vwCl [(ax, .inr (0, [.ref am, .ref ai, .null, .null, .int 0, .int 0, .null, .null, .int 0])), (am, .inl (cM, 2000, .inr (.inr (.inr (.inr (fun _ => none)))))), (ai, .inl (cI, 2001, .inl (fun _ => 0)))] H := hP
  have hD : va_D A [(ax, .inr (0, [.ref am, .ref ai, .null, .null, .int 0, .int 0, .null, .null, .int 0])), (am, .inl (cM, 2000, .inr (.inr (.inr (.inr (fun _ => none)))))), (ai, .inl (cI, 2001, .inl (fun _ => 0)))] := hD
  refine lv_aload_n hx hb dX0_init_23 rfl (lv_at hl 0 rfl) ?_
  refine lv_sipush (v := (nI 2001)) hx hb dX0_init_24 (by decide +kernel) ?_
  refine va_newa (atype := .int) (N' := 2001) (a0 := (2001, .inl (fun _ => 0))) (ty := .int) hx hb (hts _ q42) rfl hKK.1 hP hD hS hA (fun _ => rfl) (by decide +kernel) (by decide +kernel) (by decide) (Nat.le_of_ble_eq_true rfl) (Nat.le_of_ble_eq_true rfl) dX0_init_27 (fun ar car H hK1 hP hD hS => ?_)
  have ear : car = cI := sr_ra_i (hK1.2 3 _ rfl).2 (hKK.1.2 0 _ rfl).2
  rw [ear] at hP hD
  have hP : va_P D vwCl [(ax, .inr (0, [.ref am, .ref ai, .null, .null, .int 0, .int 0, .null, .null, .int 0])), (am, .inl (cM, 2000, .inr (.inr (.inr (.inr (fun _ => none)))))), (ai, .inl (cI, 2001, .inl (fun _ => 0))), (ar, .inl (cI, 2001, .inl (fun _ => 0)))] H := hP
  have hD : va_D A [(ax, .inr (0, [.ref am, .ref ai, .null, .null, .int 0, .int 0, .null, .null, .int 0])), (am, .inl (cM, 2000, .inr (.inr (.inr (.inr (fun _ => none)))))), (ai, .inl (cI, 2001, .inl (fun _ => 0))), (ar, .inl (cI, 2001, .inl (fun _ => 0)))] := hD
  refine W.widen (k := 3) (n := 6002) (by omega) (by omega) ?_
  refine va_putF (D := D) (ci := 0) (v := .ref ar) (ty := .array .int) (C := RX0) (T := TX0) (N := 9) hx hb hts in_X0 tyX0 tyX0_ok nmX0 hown hKK.1 hP hD hS 0 rfl rfl 2 (by decide) (hts _ q45) (fun _ h9 => h9) rfl hin rfl (by decide +kernel) rfl rfl (Nat.le_of_ble_eq_true rfl) dX0_init_29 (fun H locs hP hD hS => ?_)
  have hP : va_P D vwCl [(ax, .inr (0, [.ref am, .ref ai, .ref ar, .null, .int 0, .int 0, .null, .null, .int 0])), (am, .inl (cM, 2000, .inr (.inr (.inr (.inr (fun _ => none)))))), (ai, .inl (cI, 2001, .inl (fun _ => 0))), (ar, .inl (cI, 2001, .inl (fun _ => 0)))] H := hP
  have hD : va_D A [(ax, .inr (0, [.ref am, .ref ai, .ref ar, .null, .int 0, .int 0, .null, .null, .int 0])), (am, .inl (cM, 2000, .inr (.inr (.inr (.inr (fun _ => none)))))), (ai, .inl (cI, 2001, .inl (fun _ => 0))), (ar, .inl (cI, 2001, .inl (fun _ => 0)))] := hD
  refine lv_aload_n hx hb dX0_init_32 rfl (lv_at hl 0 rfl) ?_
  refine lv_sipush (v := (nI 2001)) hx hb dX0_init_33 (by decide +kernel) ?_
  refine va_newa (atype := .int) (N' := 2001) (a0 := (2001, .inl (fun _ => 0))) (ty := .int) hx hb (hts _ q42) rfl hKK.1 hP hD hS hA (fun _ => rfl) (by decide +kernel) (by decide +kernel) (by decide) (Nat.le_of_ble_eq_true rfl) (Nat.le_of_ble_eq_true rfl) dX0_init_36 (fun aq caq H hK1 hP hD hS => ?_)
  have eaq : caq = cI := sr_ra_i (hK1.2 3 _ rfl).2 (hKK.1.2 0 _ rfl).2
  rw [eaq] at hP hD
  have hP : va_P D vwCl [(ax, .inr (0, [.ref am, .ref ai, .ref ar, .null, .int 0, .int 0, .null, .null, .int 0])), (am, .inl (cM, 2000, .inr (.inr (.inr (.inr (fun _ => none)))))), (ai, .inl (cI, 2001, .inl (fun _ => 0))), (ar, .inl (cI, 2001, .inl (fun _ => 0))), (aq, .inl (cI, 2001, .inl (fun _ => 0)))] H := hP
  have hD : va_D A [(ax, .inr (0, [.ref am, .ref ai, .ref ar, .null, .int 0, .int 0, .null, .null, .int 0])), (am, .inl (cM, 2000, .inr (.inr (.inr (.inr (fun _ => none)))))), (ai, .inl (cI, 2001, .inl (fun _ => 0))), (ar, .inl (cI, 2001, .inl (fun _ => 0))), (aq, .inl (cI, 2001, .inl (fun _ => 0)))] := hD
  refine W.widen (k := 4) (n := 8003) (by omega) (by omega) ?_
  refine va_putF (D := D) (ci := 0) (v := .ref aq) (ty := .array .int) (C := RX0) (T := TX0) (N := 9) hx hb hts in_X0 tyX0 tyX0_ok nmX0 hown hKK.1 hP hD hS 0 rfl rfl 3 (by decide) (hts _ q46) (fun _ h9 => h9) rfl hin rfl (by decide +kernel) rfl rfl (Nat.le_of_ble_eq_true rfl) dX0_init_38 (fun H locs hP hD hS => ?_)
  have hP : va_P D vwCl [(ax, .inr (0, [.ref am, .ref ai, .ref ar, .ref aq, .int 0, .int 0, .null, .null, .int 0])), (am, .inl (cM, 2000, .inr (.inr (.inr (.inr (fun _ => none)))))), (ai, .inl (cI, 2001, .inl (fun _ => 0))), (ar, .inl (cI, 2001, .inl (fun _ => 0))), (aq, .inl (cI, 2001, .inl (fun _ => 0)))] H := hP
  have hD : va_D A [(ax, .inr (0, [.ref am, .ref ai, .ref ar, .ref aq, .int 0, .int 0, .null, .null, .int 0])), (am, .inl (cM, 2000, .inr (.inr (.inr (.inr (fun _ => none)))))), (ai, .inl (cI, 2001, .inl (fun _ => 0))), (ar, .inl (cI, 2001, .inl (fun _ => 0))), (aq, .inl (cI, 2001, .inl (fun _ => 0)))] := hD
  refine lv_aload_n hx hb dX0_init_41 rfl (lv_at hl 0 rfl) ?_
  refine lv_bipush (v := (nI 100)) hx hb dX0_init_42 (by decide +kernel) ?_
  refine va_put (D := D) (ci := 0) (v := .int (nI 100)) (ty := .int) (C := RX0) (T := TX0) (N := 9) hx hb hts in_X0 tyX0 tyX0_ok nmX0 hown hKK.1 hP hD hS 0 rfl rfl 5 (by decide) (hts _ q48) (fun _ h9 => h9) rfl (by decide +kernel) rfl rfl (Nat.le_of_ble_eq_true rfl) dX0_init_44 (fun H locs hP hD hS => ?_)
  have hP : va_P D vwCl [(ax, .inr (0, [.ref am, .ref ai, .ref ar, .ref aq, .int 0, .int (nI 100), .null, .null, .int 0])), (am, .inl (cM, 2000, .inr (.inr (.inr (.inr (fun _ => none)))))), (ai, .inl (cI, 2001, .inl (fun _ => 0))), (ar, .inl (cI, 2001, .inl (fun _ => 0))), (aq, .inl (cI, 2001, .inl (fun _ => 0)))] H := hP
  have hD : va_D A [(ax, .inr (0, [.ref am, .ref ai, .ref ar, .ref aq, .int 0, .int (nI 100), .null, .null, .int 0])), (am, .inl (cM, 2000, .inr (.inr (.inr (.inr (fun _ => none)))))), (ai, .inl (cI, 2001, .inl (fun _ => 0))), (ar, .inl (cI, 2001, .inl (fun _ => 0))), (aq, .inl (cI, 2001, .inl (fun _ => 0)))] := hD
  refine lv_aload_n hx hb dX0_init_47 rfl (lv_at hl 0 rfl) ?_
  refine va_new (ci := 1) (fs := [.int 0, .int 0, .int 0]) (C := RX1) (T := TX1) (N := 3) hx hb hts in_X1 tyX1 tyX1_ok hown (hts _ q23) (hts _ q24) (hts _ q9) hKK.1 hP hD hS hA rfl (fun j hj => by rcases (show j = 0 ∨ j = 1 ∨ j = 2 by omega) with rfl | rfl | rfl <;> rfl) (Nat.le_of_ble_eq_true rfl) (Nat.le_of_ble_eq_true rfl) dX0_init_48 (fun sf H hP hD hS => ?_)
  refine W.widen (k := 5) (n := 8006) (by omega) (by omega) ?_
  refine lv_dup hx hb dX0_init_51 rfl ?_
  refine lv_iconst (v := (nI 1)) hx hb dX0_init_52 (by decide +kernel) ?_
  refine lv_iconst (v := (nI 0)) hx hb dX0_init_53 (by decide +kernel) ?_
  refine lv_iconst (v := (nI 0)) hx hb dX0_init_54 (by decide +kernel) ?_
  have hP : va_P D vwCl ([(ax, .inr (0, [.ref am, .ref ai, .ref ar, .ref aq, .int 0, .int (nI 100), .null, .null, .int 0])), (am, .inl (cM, 2000, .inr (.inr (.inr (.inr (fun _ => none)))))), (ai, .inl (cI, 2001, .inl (fun _ => 0))), (ar, .inl (cI, 2001, .inl (fun _ => 0))), (aq, .inl (cI, 2001, .inl (fun _ => 0)))] ++ [(sf, .inr (1, [.int 0, .int 0, .int 0]))]) H := hP
  have hD : va_D A ([(ax, .inr (0, [.ref am, .ref ai, .ref ar, .ref aq, .int 0, .int (nI 100), .null, .null, .int 0])), (am, .inl (cM, 2000, .inr (.inr (.inr (.inr (fun _ => none)))))), (ai, .inl (cI, 2001, .inl (fun _ => 0))), (ar, .inl (cI, 2001, .inl (fun _ => 0))), (aq, .inl (cI, 2001, .inl (fun _ => 0)))] ++ [(sf, .inr (1, [.int 0, .int 0, .int 0]))]) := hD
  have hF := sr_fR hD hS hA
  refine va_callv (va_runIN (As := [.int (nI 1), .int (nI 0), .int (nI 0)]) (rest := [.ref sf, .ref ax]) ⟨hx, hb, hml, hown, hts⟩ (sr_X1_init l D cI cB cM sf H.size (nI 1) (nI 0) (nI 0) 0 0 0) ⟨va_cnB 3 hts (lw_meth q27) rfl rfl rfl hKK.2.2.1 (hts _ q9) (by decide +kernel) ⟨Nat.le_of_ble_eq_true rfl, Nat.le_of_ble_eq_true rfl⟩, rfl, hts _ q26⟩ (sr_preS hKK ⟨rfl, sr_Pr hP⟩) rfl rfl hl.1 rfl (lv_room (Nat.le_of_ble_eq_true rfl)) dX0_init_55 ⟨Nat.le_of_ble_eq_true rfl, Nat.le_of_ble_eq_true rfl⟩) hS (fun q _ h => hF q h) hF (fun u t H1 locs ht hvm hw1 hB hz1 hk1 hS => ?_)
  obtain ⟨hP1, hD1⟩ := hB
  rw [ht] at hP1
  subst hw1
  obtain ⟨hP, hD⟩ := sr_jR hP hD hk1 hF hP1 hD1
  generalize H1 = H at hP hS ⊢
  have hP : va_P D vwCl [(ax, .inr (0, [.ref am, .ref ai, .ref ar, .ref aq, .int 0, .int (nI 100), .null, .null, .int 0])), (am, .inl (cM, 2000, .inr (.inr (.inr (.inr (fun _ => none)))))), (ai, .inl (cI, 2001, .inl (fun _ => 0))), (ar, .inl (cI, 2001, .inl (fun _ => 0))), (aq, .inl (cI, 2001, .inl (fun _ => 0))), (sf, .inr (1, [.int (nI 1), .int (nI 0), .int (nI 0)]))] H := hP
  have hD : va_D A [(ax, .inr (0, [.ref am, .ref ai, .ref ar, .ref aq, .int 0, .int (nI 100), .null, .null, .int 0])), (am, .inl (cM, 2000, .inr (.inr (.inr (.inr (fun _ => none)))))), (ai, .inl (cI, 2001, .inl (fun _ => 0))), (ar, .inl (cI, 2001, .inl (fun _ => 0))), (aq, .inl (cI, 2001, .inl (fun _ => 0))), (sf, .inr (1, [.int (nI 1), .int (nI 0), .int (nI 0)]))] := hD
  refine va_put (D := D) (ci := 0) (v := .ref sf) (ty := .object "SpeedRows$Step") (C := RX0) (T := TX0) (N := 9) hx hb hts in_X0 tyX0 tyX0_ok nmX0 hown hKK.1 hP hD hS 0 rfl rfl 6 (by decide) (hts _ q49) (fun _ h9 => h9) rfl (by decide +kernel) rfl rfl (Nat.le_of_ble_eq_true rfl) dX0_init_58 (fun H locs hP hD hS => ?_)
  have hP : va_P D vwCl [(ax, .inr (0, [.ref am, .ref ai, .ref ar, .ref aq, .int 0, .int (nI 100), .ref sf, .null, .int 0])), (am, .inl (cM, 2000, .inr (.inr (.inr (.inr (fun _ => none)))))), (ai, .inl (cI, 2001, .inl (fun _ => 0))), (ar, .inl (cI, 2001, .inl (fun _ => 0))), (aq, .inl (cI, 2001, .inl (fun _ => 0))), (sf, .inr (1, [.int (nI 1), .int (nI 0), .int (nI 0)]))] H := hP
  have hD : va_D A [(ax, .inr (0, [.ref am, .ref ai, .ref ar, .ref aq, .int 0, .int (nI 100), .ref sf, .null, .int 0])), (am, .inl (cM, 2000, .inr (.inr (.inr (.inr (fun _ => none)))))), (ai, .inl (cI, 2001, .inl (fun _ => 0))), (ar, .inl (cI, 2001, .inl (fun _ => 0))), (aq, .inl (cI, 2001, .inl (fun _ => 0))), (sf, .inr (1, [.int (nI 1), .int (nI 0), .int (nI 0)]))] := hD
  refine lv_aload_n hx hb dX0_init_61 rfl (lv_at hl 0 rfl) ?_
  refine va_new (ci := 1) (fs := [.int 0, .int 0, .int 0]) (C := RX1) (T := TX1) (N := 3) hx hb hts in_X1 tyX1 tyX1_ok hown (hts _ q23) (hts _ q24) (hts _ q9) hKK.1 hP hD hS hA rfl (fun j hj => by rcases (show j = 0 ∨ j = 1 ∨ j = 2 by omega) with rfl | rfl | rfl <;> rfl) (Nat.le_of_ble_eq_true rfl) (Nat.le_of_ble_eq_true rfl) dX0_init_62 (fun sl H hP hD hS => ?_)
  refine W.widen (k := 6) (n := 8009) (by omega) (by omega) ?_
  refine lv_dup hx hb dX0_init_65 rfl ?_
  refine lv_iconst (v := (nI 1)) hx hb dX0_init_66 (by decide +kernel) ?_
  refine lv_iconst (v := (nI 0)) hx hb dX0_init_67 (by decide +kernel) ?_
  refine lv_iconst (v := (nI 0)) hx hb dX0_init_68 (by decide +kernel) ?_
  have hP : va_P D vwCl ([(ax, .inr (0, [.ref am, .ref ai, .ref ar, .ref aq, .int 0, .int (nI 100), .ref sf, .null, .int 0])), (am, .inl (cM, 2000, .inr (.inr (.inr (.inr (fun _ => none)))))), (ai, .inl (cI, 2001, .inl (fun _ => 0))), (ar, .inl (cI, 2001, .inl (fun _ => 0))), (aq, .inl (cI, 2001, .inl (fun _ => 0))), (sf, .inr (1, [.int (nI 1), .int (nI 0), .int (nI 0)]))] ++ [(sl, .inr (1, [.int 0, .int 0, .int 0]))]) H := hP
  have hD : va_D A ([(ax, .inr (0, [.ref am, .ref ai, .ref ar, .ref aq, .int 0, .int (nI 100), .ref sf, .null, .int 0])), (am, .inl (cM, 2000, .inr (.inr (.inr (.inr (fun _ => none)))))), (ai, .inl (cI, 2001, .inl (fun _ => 0))), (ar, .inl (cI, 2001, .inl (fun _ => 0))), (aq, .inl (cI, 2001, .inl (fun _ => 0))), (sf, .inr (1, [.int (nI 1), .int (nI 0), .int (nI 0)]))] ++ [(sl, .inr (1, [.int 0, .int 0, .int 0]))]) := hD
  have hF := sr_fR hD hS hA
  refine va_callv (va_runIN (As := [.int (nI 1), .int (nI 0), .int (nI 0)]) (rest := [.ref sl, .ref ax]) ⟨hx, hb, hml, hown, hts⟩ (sr_X1_init l D cI cB cM sl H.size (nI 1) (nI 0) (nI 0) 0 0 0) ⟨va_cnB 3 hts (lw_meth q27) rfl rfl rfl hKK.2.2.1 (hts _ q9) (by decide +kernel) ⟨Nat.le_of_ble_eq_true rfl, Nat.le_of_ble_eq_true rfl⟩, rfl, hts _ q26⟩ (sr_preS hKK ⟨rfl, sr_Pr hP⟩) rfl rfl hl.1 rfl (lv_room (Nat.le_of_ble_eq_true rfl)) dX0_init_69 ⟨Nat.le_of_ble_eq_true rfl, Nat.le_of_ble_eq_true rfl⟩) hS (fun q _ h => hF q h) hF (fun u t H1 locs ht hvm hw1 hB hz1 hk1 hS => ?_)
  obtain ⟨hP1, hD1⟩ := hB
  rw [ht] at hP1
  subst hw1
  obtain ⟨hP, hD⟩ := sr_jR hP hD hk1 hF hP1 hD1
  generalize H1 = H at hP hS ⊢
  have hP : va_P D vwCl [(ax, .inr (0, [.ref am, .ref ai, .ref ar, .ref aq, .int 0, .int (nI 100), .ref sf, .null, .int 0])), (am, .inl (cM, 2000, .inr (.inr (.inr (.inr (fun _ => none)))))), (ai, .inl (cI, 2001, .inl (fun _ => 0))), (ar, .inl (cI, 2001, .inl (fun _ => 0))), (aq, .inl (cI, 2001, .inl (fun _ => 0))), (sf, .inr (1, [.int (nI 1), .int (nI 0), .int (nI 0)])), (sl, .inr (1, [.int (nI 1), .int (nI 0), .int (nI 0)]))] H := hP
  have hD : va_D A [(ax, .inr (0, [.ref am, .ref ai, .ref ar, .ref aq, .int 0, .int (nI 100), .ref sf, .null, .int 0])), (am, .inl (cM, 2000, .inr (.inr (.inr (.inr (fun _ => none)))))), (ai, .inl (cI, 2001, .inl (fun _ => 0))), (ar, .inl (cI, 2001, .inl (fun _ => 0))), (aq, .inl (cI, 2001, .inl (fun _ => 0))), (sf, .inr (1, [.int (nI 1), .int (nI 0), .int (nI 0)])), (sl, .inr (1, [.int (nI 1), .int (nI 0), .int (nI 0)]))] := hD
  refine va_put (D := D) (ci := 0) (v := .ref sl) (ty := .object "SpeedRows$Step") (C := RX0) (T := TX0) (N := 9) hx hb hts in_X0 tyX0 tyX0_ok nmX0 hown hKK.1 hP hD hS 0 rfl rfl 7 (by decide) (hts _ q50) (fun _ h9 => h9) rfl (by decide +kernel) rfl rfl (Nat.le_of_ble_eq_true rfl) dX0_init_72 (fun H locs hP hD hS => ?_)
  have hP : va_P D vwCl [(ax, .inr (0, [.ref am, .ref ai, .ref ar, .ref aq, .int 0, .int (nI 100), .ref sf, .ref sl, .int 0])), (am, .inl (cM, 2000, .inr (.inr (.inr (.inr (fun _ => none)))))), (ai, .inl (cI, 2001, .inl (fun _ => 0))), (ar, .inl (cI, 2001, .inl (fun _ => 0))), (aq, .inl (cI, 2001, .inl (fun _ => 0))), (sf, .inr (1, [.int (nI 1), .int (nI 0), .int (nI 0)])), (sl, .inr (1, [.int (nI 1), .int (nI 0), .int (nI 0)]))] H := hP
  have hD : va_D A [(ax, .inr (0, [.ref am, .ref ai, .ref ar, .ref aq, .int 0, .int (nI 100), .ref sf, .ref sl, .int 0])), (am, .inl (cM, 2000, .inr (.inr (.inr (.inr (fun _ => none)))))), (ai, .inl (cI, 2001, .inl (fun _ => 0))), (ar, .inl (cI, 2001, .inl (fun _ => 0))), (aq, .inl (cI, 2001, .inl (fun _ => 0))), (sf, .inr (1, [.int (nI 1), .int (nI 0), .int (nI 0)])), (sl, .inr (1, [.int (nI 1), .int (nI 0), .int (nI 0)]))] := hD
  exact W.vret hx hb hr (fun t ht hW => ⟨⟨_, rfl, ⟨am, ai, ar, aq, sf, sl, (fun _ => none), (fun _ => 0), (fun _ => 0), (fun _ => 0), 0, [(sf, .inr (1, [.int (nI 1), .int (nI 0), .int (nI 0)])), (sl, .inr (1, [.int (nI 1), .int (nI 0), .int (nI 0)]))], rfl, List.mem_cons_self, List.mem_cons_of_mem _ List.mem_cons_self, fun i h => absurd h (Nat.not_lt_zero i), fun k _ h => absurd h (Nat.not_lt_zero k), fun k h => by rcases h with q | q; rw [q]; rfl; exact absurd q (Nat.not_lt_zero k), Or.inl rfl⟩, by rw [ht]; exact hP, hD⟩, hS.F ht⟩) hS.2.2 dX0_init_75
end
section
/-! SpeedRowsModel: the methods that only read -/
def sr_c (t : sr_Tr) (k : Nat) : Int32 := match k with
  | 0 => t.1
  | 1 => t.2.1
  | _ => t.2.2
def sr_ps (u v : sr_Tr) : Nat → Int32
  | 0 => nI 0
  | k + 1 => sr_ps u v k + sr_c u k * sr_c v k
theorem sr_ps3 (u v : sr_Tr) : sr_ps u v 3 = sr_dt u v := by
  show nI 0 + u.1 * v.1 + u.2.1 * v.2.1 + u.2.2 * v.2.2 = u.1 * v.1 + u.2.1 * v.2.1 + u.2.2 * v.2.2
  rw [nI_0, Int32.zero_add]
theorem sr_c_byte {t : sr_Tr} (h : sr_okT t) (k : Nat) : vp_nar .byte (sr_c t k) = sr_c t k := by
  obtain ⟨h1, h2, h3⟩ := sr_okT_byte h
  rw [vp_nar_byte]
  unfold sr_c
  split
  · exact h1
  · exact h2
  · exact h3
abbrev wsX2_isStep : List Cond := ws_ yX2_isStep cX2_isStep 3 (some .boolean)
abbrev wsX2_root : List Cond := ws_ yX2_root cX2_root 8 (some .long)
abbrev wsX2_reach : List Cond := ws_ yX2_reach cX2_reach 3 (some .int)
abbrev wsX2_limit : List Cond := ws_ yX2_limit cX2_limit 8 (some .int)
set_option maxHeartbeats 4000000 in
set_option maxRecDepth 100000 in
/-- isStep(x, y, z) -/
theorem sr_X2_isStep (l : Launch) (D : va_G) (cI cB cM : ClassId) (x y z : Int32) : sr_RoI l D cI cB cM yX2_isStep wsX2_isStep ({ frames := 0, cells := 0, slots := 0, locals := 0 } : Room) [.int x, .int y, .int z] [] (fun r => r = sr_isOne x y z) := by
  refine Met.ofW (cc := cX2_isStep) (maxL := 3) (ret := (some .boolean)) (by decide) rfl ?_
  intro p e s m args below meth c s₁ B hml hv
  obtain ⟨rfl, hKK, hP⟩ := hv
  have hx := B.exec
  have hb := B.bytes
  have hr := B.returns
  have hts := atoms_spec (ws := wsX2_isStep) B.pre
  have hts : ∀ w ∈ lw_all, w.before _ s = true := fun w h => hts w (List.mem_cons_of_mem _ h)
  have hown : s.vm.findClass RX2 = some m.cls := findClass_of_methodNamed B.named
  have hlocks := B.notSynchronized
  have hl := lv_entry ([.int x, .int y, .int z]) (n := 3) (Nat.le_of_ble_eq_true rfl)
  rw [lg_entry_eq]
  generalize (lg_sl ([.int x, .int y, .int z]) ++ List.replicate (3 - (lg_sl ([.int x, .int y, .int z])).length) Slot.unset).toArray = ls at hl ⊢
  have hl : lv_has ls 3 [(0, .int x), (1, .int y), (2, .int z)] := hl
  refine lv_iload_n hx hb dX2_isStep_0 rfl (lv_at hl 0 rfl) ?_
  refine lv_iconst (v := (-1)) hx hb dX2_isStep_1 (by decide +kernel) ?_
  refine lv_icmp_lt (tgt := 46) hx hb dX2_isStep_2 (by decide) (fun c1 => ?_) (fun c1 => ?_)
  · refine lv_iconst (v := (nI 0)) hx hb dX2_isStep_46 (by decide +kernel) ?_
    exact W.zret (v := 0) hx hb hr rfl (fun t ht hW => ⟨0, rfl, (if_neg (fun h => h.1 c1)).symm, ht⟩) (fun _ h => by cases h) dX2_isStep_47
  refine lv_iload_n hx hb dX2_isStep_5 rfl (lv_at hl 0 rfl) ?_
  refine lv_iconst (v := (nI 1)) hx hb dX2_isStep_6 (by decide +kernel) ?_
  refine lv_icmp_gt (tgt := 46) hx hb dX2_isStep_7 (by decide) (fun c2 => ?_) (fun c2 => ?_)
  · refine lv_iconst (v := (nI 0)) hx hb dX2_isStep_46 (by decide +kernel) ?_
    exact W.zret (v := 0) hx hb hr rfl (fun t ht hW => ⟨0, rfl, (if_neg (fun h => h.2.1 c2)).symm, ht⟩) (fun _ h => by cases h) dX2_isStep_47
  refine lv_iload_n hx hb dX2_isStep_10 rfl (lv_at hl 1 rfl) ?_
  refine lv_iconst (v := (-1)) hx hb dX2_isStep_11 (by decide +kernel) ?_
  refine lv_icmp_lt (tgt := 46) hx hb dX2_isStep_12 (by decide) (fun c3 => ?_) (fun c3 => ?_)
  · refine lv_iconst (v := (nI 0)) hx hb dX2_isStep_46 (by decide +kernel) ?_
    exact W.zret (v := 0) hx hb hr rfl (fun t ht hW => ⟨0, rfl, (if_neg (fun h => h.2.2.1 c3)).symm, ht⟩) (fun _ h => by cases h) dX2_isStep_47
  refine lv_iload_n hx hb dX2_isStep_15 rfl (lv_at hl 1 rfl) ?_
  refine lv_iconst (v := (nI 1)) hx hb dX2_isStep_16 (by decide +kernel) ?_
  refine lv_icmp_gt (tgt := 46) hx hb dX2_isStep_17 (by decide) (fun c4 => ?_) (fun c4 => ?_)
  · refine lv_iconst (v := (nI 0)) hx hb dX2_isStep_46 (by decide +kernel) ?_
    exact W.zret (v := 0) hx hb hr rfl (fun t ht hW => ⟨0, rfl, (if_neg (fun h => h.2.2.2.1 c4)).symm, ht⟩) (fun _ h => by cases h) dX2_isStep_47
  refine lv_iload_n hx hb dX2_isStep_20 rfl (lv_at hl 2 rfl) ?_
  refine lv_iconst (v := (-1)) hx hb dX2_isStep_21 (by decide +kernel) ?_
  refine lv_icmp_lt (tgt := 46) hx hb dX2_isStep_22 (by decide) (fun c5 => ?_) (fun c5 => ?_)
  · refine lv_iconst (v := (nI 0)) hx hb dX2_isStep_46 (by decide +kernel) ?_
    exact W.zret (v := 0) hx hb hr rfl (fun t ht hW => ⟨0, rfl, (if_neg (fun h => h.2.2.2.2.1 c5)).symm, ht⟩) (fun _ h => by cases h) dX2_isStep_47
  refine lv_iload_n hx hb dX2_isStep_25 rfl (lv_at hl 2 rfl) ?_
  refine lv_iconst (v := (nI 1)) hx hb dX2_isStep_26 (by decide +kernel) ?_
  refine lv_icmp_gt (tgt := 46) hx hb dX2_isStep_27 (by decide) (fun c6 => ?_) (fun c6 => ?_)
  · refine lv_iconst (v := (nI 0)) hx hb dX2_isStep_46 (by decide +kernel) ?_
    exact W.zret (v := 0) hx hb hr rfl (fun t ht hW => ⟨0, rfl, (if_neg (fun h => h.2.2.2.2.2.1 c6)).symm, ht⟩) (fun _ h => by cases h) dX2_isStep_47
  refine lv_iload_n hx hb dX2_isStep_30 rfl (lv_at hl 0 rfl) ?_
  refine lv_if_ne (tgt := 42) hx hb dX2_isStep_31 (by decide) (fun c7 => ?_) (fun c7 => ?_)
  · refine lv_iconst (v := (nI 1)) hx hb dX2_isStep_42 (by decide +kernel) ?_
    refine lv_goto (tgt := 47) hx hb dX2_isStep_43 (by decide) ?_
    exact W.zret (v := 1) hx hb hr rfl (fun t ht hW => ⟨1, rfl, (if_pos ⟨c1, c2, c3, c4, c5, c6, fun h => c7 h.1⟩).symm, ht⟩) (fun _ h => by cases h) dX2_isStep_47
  refine lv_iload_n hx hb dX2_isStep_34 rfl (lv_at hl 1 rfl) ?_
  refine lv_if_ne (tgt := 42) hx hb dX2_isStep_35 (by decide) (fun c8 => ?_) (fun c8 => ?_)
  · refine lv_iconst (v := (nI 1)) hx hb dX2_isStep_42 (by decide +kernel) ?_
    refine lv_goto (tgt := 47) hx hb dX2_isStep_43 (by decide) ?_
    exact W.zret (v := 1) hx hb hr rfl (fun t ht hW => ⟨1, rfl, (if_pos ⟨c1, c2, c3, c4, c5, c6, fun h => c8 h.2.1⟩).symm, ht⟩) (fun _ h => by cases h) dX2_isStep_47
  refine lv_iload_n hx hb dX2_isStep_38 rfl (lv_at hl 2 rfl) ?_
  refine lv_if_eq (tgt := 46) hx hb dX2_isStep_39 (by decide) (fun c9 => ?_) (fun c9 => ?_)
  · refine lv_iconst (v := (nI 0)) hx hb dX2_isStep_46 (by decide +kernel) ?_
    exact W.zret (v := 0) hx hb hr rfl (fun t ht hW => ⟨0, rfl, (if_neg (fun h => h.2.2.2.2.2.2 ⟨c7, c8, c9⟩)).symm, ht⟩) (fun _ h => by cases h) dX2_isStep_47
  · refine lv_iconst (v := (nI 1)) hx hb dX2_isStep_42 (by decide +kernel) ?_
    refine lv_goto (tgt := 47) hx hb dX2_isStep_43 (by decide) ?_
    exact W.zret (v := 1) hx hb hr rfl (fun t ht hW => ⟨1, rfl, (if_pos ⟨c1, c2, c3, c4, c5, c6, fun h => c9 h.2.2⟩).symm, ht⟩) (fun _ h => by cases h) dX2_isStep_47
set_option maxHeartbeats 4000000 in
set_option maxRecDepth 100000 in
/-- root(n), by halves -/
theorem sr_X2_root (l : Launch) (D : va_G) (cI cB cM : ClassId) (n : Nat) (hn : n < 4000000000000000000) : sr_RoL l D cI cB cM yX2_root wsX2_root ({ frames := 0, cells := 0, slots := 0, locals := 0 } : Room) [.long (lN n)] [] (fun r => r = lN (sr_rt n)) := by
  refine Met.ofW (cc := cX2_root) (maxL := 8) (ret := (some .long)) (by decide) rfl ?_
  intro p e s m args below meth c s₁ B hml hv
  obtain ⟨rfl, hKK, hP⟩ := hv
  have hx := B.exec
  have hb := B.bytes
  have hr := B.returns
  have hts := atoms_spec (ws := wsX2_root) B.pre
  have hts : ∀ w ∈ lw_all, w.before _ s = true := fun w h => hts w (List.mem_cons_of_mem _ h)
  have hown : s.vm.findClass RX2 = some m.cls := findClass_of_methodNamed B.named
  have hlocks := B.notSynchronized
  have hl := lv_entry ([.long (lN n)]) (n := 8) (Nat.le_of_ble_eq_true rfl)
  rw [lg_entry_eq]
  generalize (lg_sl ([.long (lN n)]) ++ List.replicate (8 - (lg_sl ([.long (lN n)])).length) Slot.unset).toArray = ls at hl ⊢
  have hl : lv_has ls 8 [(0, .long (lN n))] := hl
  have loop : ∀ (d lo hi : Nat) (ls : Array Slot), hi - lo < d → lo ≤ hi → hi ≤ 2000000000 → lo * lo ≤ n → n < (hi + 1) * (hi + 1) → lv_has ls 8 [(4, .long (lN hi)), (2, .long (lN lo)), (0, .long (lN n))] → W p l e (headSpec wsX2_root ({ frames := 0, cells := 0, slots := 0, locals := 0 } : Room)).room s m ([.long (lN n)] : List Value).toArray below meth c s.heap [] 0 0 (MQ below (vp_Sl (fun r => r = lN (sr_rt n))) ([.long (lN n)] : List Value).toArray s 0 0 (fun _ => False)) (F0 m 7 ls []) := by
    intro d
    induction d with
    | zero => intro lo hi ls h1; exact absurd h1 (by omega)
    | succ d ih =>
      intro lo hi ls h1 h2 h3 h4 h5 hl
      refine lv_lload_n hx hb dX2_root_7 rfl (lv_at hl 1 rfl) ?_
      refine lv_lload hx hb dX2_root_8 (lv_at hl 0 rfl) ?_
      refine W.lcmp hx hb dX2_root_10 ?_
      refine lv_if_ge (tgt := 51) hx hb dX2_root_11 (by decide) (fun c1 => ?_) (fun c1 => ?_)
      · have c1 := (sr_lcmp_ge (by omega) (by omega)).mp c1
        have e1 : lo = hi := by omega
        subst e1
        refine lv_lload_n hx hb dX2_root_51 rfl (lv_at hl 1 rfl) ?_
        exact W.lret hx hb hr (fun t ht hW => ⟨_, rfl, by rw [sr_rt_uniq h4 h5], ht⟩) (fun _ h => by cases h) dX2_root_52
      · have c1 : lo < hi := Nat.lt_of_not_le (fun h => c1 ((sr_lcmp_ge (by omega) (by omega)).mpr h))
        obtain ⟨md, hmd⟩ : ∃ md : Nat, md = (lo + hi + 1) / 2 := ⟨_, rfl⟩
        have hm1 : lo < md := by omega
        have hm2 : md ≤ hi := by omega
        have hsq : md * md ≤ 2000000000 * 2000000000 := Nat.mul_le_mul (by omega) (by omega)
        refine lv_lload_n hx hb dX2_root_14 rfl (lv_at hl 1 rfl) ?_
        refine lv_lload hx hb dX2_root_15 (lv_at hl 0 rfl) ?_
        refine lv_ladd hx hb dX2_root_17 ?_
        refine lv_lconst (v := (lN 1)) hx hb dX2_root_18 (by decide +kernel) ?_
        refine lv_ladd hx hb dX2_root_19 ?_
        refine lv_ldc2 (v := lN 2) hx hb hown (hts _ q261) dX2_root_20 ?_
        refine lv_ldiv hx hb dX2_root_23 (by decide +kernel) ?_
        refine sr_tl (y := (lN md)) (by rw [lN_add, lN_add, pk_lDiv (by omega) (by decide) (by decide), hmd]) ?_
        refine lv_lstore (lv' := [(6, .long (lN md)), (4, .long (lN hi)), (2, .long (lN lo)), (0, .long (lN n))]) hx hb dX2_root_24 hl (by decide) rfl (fun ls hl => ?_)
        refine lv_lload hx hb dX2_root_26 (lv_at hl 0 rfl) ?_
        refine lv_lload hx hb dX2_root_28 (lv_at hl 0 rfl) ?_
        refine lv_lmul hx hb dX2_root_30 ?_
        refine sr_tl (y := (lN (md * md))) (lN_mul _ _) ?_
        refine lv_lload_n hx hb dX2_root_31 rfl (lv_at hl 3 rfl) ?_
        refine W.lcmp hx hb dX2_root_32 ?_
        refine lv_if_gt (tgt := 42) hx hb dX2_root_33 (by decide) (fun c2 => ?_) (fun c2 => ?_)
        · have c2 := (sr_lcmp_gt (by omega) (by omega)).mp c2
          refine lv_lload hx hb dX2_root_42 (lv_at hl 0 rfl) ?_
          refine lv_lconst (v := (lN 1)) hx hb dX2_root_44 (by decide +kernel) ?_
          refine lv_lsub hx hb dX2_root_45 ?_
          refine sr_tl (y := (lN (md - 1))) (lN_sub (by omega)) ?_
          refine lv_lstore (lv' := [(4, .long (lN (md - 1))), (6, .long (lN md)), (2, .long (lN lo)), (0, .long (lN n))]) hx hb dX2_root_46 hl (by decide) rfl (fun ls hl => ?_)
          refine lv_goto (tgt := 7) hx hb dX2_root_48 (by decide) ?_
          exact ih lo (md - 1) ls (by omega) (by omega) (by omega) h4 (by rw [show md - 1 + 1 = md by omega]; exact c2) (lv_sub hl [0, 2, 3] rfl)
        · have c2 : ¬ n < md * md := fun h => c2 ((sr_lcmp_gt (by omega) (by omega)).mpr h)
          refine lv_lload hx hb dX2_root_36 (lv_at hl 0 rfl) ?_
          refine lv_lstore_n (lv' := [(2, .long (lN md)), (6, .long (lN md)), (4, .long (lN hi)), (0, .long (lN n))]) hx hb dX2_root_38 rfl hl (by decide) rfl (fun ls hl => ?_)
          refine lv_goto (tgt := 48) hx hb dX2_root_39 (by decide) ?_
          refine lv_goto (tgt := 7) hx hb dX2_root_48 (by decide) ?_
          exact ih md hi ls (by omega) (by omega) (by omega) (by omega) h5 (lv_sub hl [2, 0, 3] rfl)
  refine lv_lconst (v := (lN 0)) hx hb dX2_root_0 (by decide +kernel) ?_
  refine lv_lstore_n (lv' := [(2, .long (lN 0)), (0, .long (lN n))]) hx hb dX2_root_1 rfl hl (by decide) rfl (fun ls hl => ?_)
  refine lv_ldc2 (v := lN 2000000000) hx hb hown (hts _ q265) dX2_root_2 ?_
  refine lv_lstore (lv' := [(4, .long (lN 2000000000)), (2, .long (lN 0)), (0, .long (lN n))]) hx hb dX2_root_5 hl (by decide) rfl (fun ls hl => ?_)
  exact loop 2000000001 0 2000000000 ls (by omega) (by omega) (by omega) (by omega) (by omega) (lv_sub hl [0, 1, 2] rfl)
set_option maxHeartbeats 4000000 in
set_option maxRecDepth 100000 in
/-- reach(w, move) -/
theorem sr_X2_reach (l : Launch) (D : va_G) (cI cB cM : ClassId) (ay bt : Nat) (v1 v2 v3 v4 v5 v6 v8 v9 : Value) (tk : Nat → Int32) (acc v i n : Nat) (hi9 : i < 2000) (htk : tk i = nI n) (hac : acc ≤ 10000) (hv9 : v ≤ 99999) (hn9 : n ≤ 100000) : sr_RoI l D cI cB cM yX2_reach wsX2_reach ({ frames := 1, cells := 0, slots := 0, locals := 27 } : Room) [.ref ay, .int (nI v), .int (nI i)] [(ay, .inr (2, [.ref bt, v1, v2, v3, v4, v5, v6, .int (nI acc), v8, v9])), (bt, .inl (cI, 2000, .inl tk))] (fun r => r = nI (sr_re acc v n)) := by
  refine Met.ofW (cc := cX2_reach) (maxL := 3) (ret := (some .int)) (by decide) rfl ?_
  intro p e s m args below meth c s₁ B hml hv
  obtain ⟨rfl, hKK, hP⟩ := hv
  have hx := B.exec
  have hb := B.bytes
  have hr := B.returns
  have hts := atoms_spec (ws := wsX2_reach) B.pre
  have hts : ∀ w ∈ lw_all, w.before _ s = true := fun w h => hts w (List.mem_cons_of_mem _ h)
  have hown : s.vm.findClass RX2 = some m.cls := findClass_of_methodNamed B.named
  have hlocks := B.notSynchronized
  have hl := lv_entry ([.ref ay, .int (nI v), .int (nI i)]) (n := 3) (Nat.le_of_ble_eq_true rfl)
  rw [lg_entry_eq]
  generalize (lg_sl ([.ref ay, .int (nI v), .int (nI i)]) ++ List.replicate (3 - (lg_sl ([.ref ay, .int (nI v), .int (nI i)])).length) Slot.unset).toArray = ls at hl ⊢
  have hl : lv_has ls 3 [(0, .ref ay), (1, .int (nI v)), (2, .int (nI i))] := hl
  have harg := sr_re_arg hac hv9 hn9
  refine lv_iload_n hx hb dX2_reach_0 rfl (lv_at hl 1 rfl) ?_
  refine lv_i2l (v := (nI v).toInt64) hx hb dX2_reach_1 rfl ?_
  refine sr_tl (y := (lN v)) (nI_l (by omega)) ?_
  refine lv_iload_n hx hb dX2_reach_2 rfl (lv_at hl 1 rfl) ?_
  refine lv_i2l (v := (nI v).toInt64) hx hb dX2_reach_3 rfl ?_
  refine sr_tl (y := (lN v)) (nI_l (by omega)) ?_
  refine lv_lmul hx hb dX2_reach_4 ?_
  refine lv_ldc2 (v := lN 2) hx hb hown (hts _ q261) dX2_reach_5 ?_
  refine lv_aload_n hx hb dX2_reach_8 rfl (lv_at hl 0 rfl) ?_
  refine va_get (D := D) (ci := 2) (v := .int (nI acc)) (C := RX2) (T := TX2) (N := 10) hx hb hts in_X2 hown hKK.1 hP 0 rfl rfl 7 (by decide) (hts _ q189) (fun _ h9 => h9) rfl dX2_reach_9 ?_
  refine lv_i2l (v := (nI acc).toInt64) hx hb dX2_reach_12 rfl ?_
  refine sr_tl (y := (lN acc)) (nI_l (by omega)) ?_
  refine lv_lmul hx hb dX2_reach_13 ?_
  refine lv_aload_n hx hb dX2_reach_14 rfl (lv_at hl 0 rfl) ?_
  refine va_get (D := D) (ci := 2) (v := .ref bt) (C := RX2) (T := TX2) (N := 10) hx hb hts in_X2 hown hKK.1 hP 0 rfl rfl 0 (by decide) (hts _ q182) (fun _ h9 => h9) rfl dX2_reach_15 ?_
  refine lv_iload_n hx hb dX2_reach_18 rfl (lv_at hl 2 rfl) ?_
  refine va_iald hx hb hKK.1 hP 1 0 rfl rfl (vp_in_nI hi9 (by omega)) dX2_reach_19 ?_
  refine sr_ti (y := (nI n)) (by rw [nI_clamp (by omega)]; exact htk) ?_
  refine lv_i2l (v := (nI n).toInt64) hx hb dX2_reach_20 rfl ?_
  refine sr_tl (y := (lN n)) (nI_l (by omega)) ?_
  refine lv_lmul hx hb dX2_reach_21 ?_
  refine lv_ladd hx hb dX2_reach_22 ?_
  refine sr_tl (y := (lN (v * v + 2 * acc * n))) (by rw [lN_mul, lN_mul, lN_mul, lN_add]) ?_
  refine vp_callSl (W.runS (As := [.long (lN (v * v + 2 * acc * n))]) (rest := []) ⟨hx, hb, hml, hown, hts⟩ (sr_X2_root l D cI cB cM (v * v + 2 * acc * n) (by omega)) (va_cwS 1 hts (lw_S q262 q263 q10 q264) rfl rfl rfl (by decide +kernel) ⟨Nat.le_of_ble_eq_true rfl, Nat.le_of_ble_eq_true rfl⟩) (sr_preS hKK sr_P0) rfl rfl hl.1 rfl (lv_room (Nat.le_of_ble_eq_true rfl)) dX2_reach_23 ⟨Nat.le_of_ble_eq_true rfl, Nat.le_of_ble_eq_true rfl⟩) (fun r1 hr1 => ?_)
  have hr1 := hr1.symm
  subst hr1
  refine lv_l2i (v := (lN (sr_rt (v * v + 2 * acc * n))).toInt32) hx hb dX2_reach_26 rfl ?_
  exact W.iret hx hb hr (fun t ht hW => ⟨_, rfl, lN_i _, ht⟩) (fun _ h => by cases h) dX2_reach_27
set_option maxHeartbeats 4000000 in
set_option maxRecDepth 100000 in
/-- limit(k) -/
theorem sr_X2_limit (l : Launch) (D : va_G) (cI cB cM : ClassId) (ay be bf bl : Nat) (v0 v4 v5 v7 v8 v9 : Value) (fe fi la : Nat → Int32) (g : sr_Sg) (hg : sr_OK g) (h1 : ∀ i, i < g.1 → fe i = nI (g.2.2.2.2 i).2.1) (h2 : ∀ i, i < g.1 → ∀ a, a < 3 → fi (3 * i + a) = sr_c (g.2.2.2.2 i).2.2.1 a) (h3 : ∀ i, i < g.1 → ∀ a, a < 3 → la (3 * i + a) = sr_c (g.2.2.2.2 i).2.2.2 a) (k : Int32) : sr_RoI l D cI cB cM yX2_limit wsX2_limit ({ frames := 1, cells := 0, slots := 0, locals := 40 } : Room) [.ref ay, .int k] [(ay, .inr (2, [v0, .ref be, .ref bf, .ref bl, v4, v5, .int (nI g.1), v7, v8, v9])), (be, .inl (cI, 2000, .inl fe)), (bf, .inl (cB, 6000, .inl fi)), (bl, .inl (cB, 6000, .inl la))] (fun r => sr_pLim g k r) := by
  refine Met.ofW (cc := cX2_limit) (maxL := 8) (ret := (some .int)) (by decide) rfl ?_
  intro p e s m args below meth c s₁ B hml hv
  obtain ⟨rfl, hKK, hP⟩ := hv
  have hx := B.exec
  have hb := B.bytes
  have hr := B.returns
  have hts := atoms_spec (ws := wsX2_limit) B.pre
  have hts : ∀ w ∈ lw_all, w.before _ s = true := fun w h => hts w (List.mem_cons_of_mem _ h)
  have hown : s.vm.findClass RX2 = some m.cls := findClass_of_methodNamed B.named
  have hlocks := B.notSynchronized
  have hl := lv_entry ([.ref ay, .int k]) (n := 8) (Nat.le_of_ble_eq_true rfl)
  rw [lg_entry_eq]
  generalize (lg_sl ([.ref ay, .int k]) ++ List.replicate (8 - (lg_sl ([.ref ay, .int k])).length) Slot.unset).toArray = ls at hl ⊢
  have hl : lv_has ls 8 [(0, .ref ay), (1, .int k)] := hl
  have hg1 := hg.1
  have hgm := hg.2.2.2.2.2
  refine lv_iload_n hx hb dX2_limit_0 rfl (lv_at hl 1 rfl) ?_
  refine lv_if_lt (tgt := 12) hx hb dX2_limit_1 (by decide) (fun c1 => ?_) (fun c1 => ?_)
  · refine lv_iconst (v := (-1)) hx hb dX2_limit_12 (by decide +kernel) ?_
    exact W.iret hx hb hr (fun t ht hW => ⟨_, rfl, Or.inr ⟨fun h => h.1 c1, rfl⟩, ht⟩) (fun _ h => by cases h) dX2_limit_13
  refine lv_iload_n hx hb dX2_limit_4 rfl (lv_at hl 1 rfl) ?_
  refine lv_aload_n hx hb dX2_limit_5 rfl (lv_at hl 0 rfl) ?_
  refine va_get (D := D) (ci := 2) (v := .int (nI g.1)) (C := RX2) (T := TX2) (N := 10) hx hb hts in_X2 hown hKK.1 hP 0 rfl rfl 6 (by decide) (hts _ q188) (fun _ h9 => h9) rfl dX2_limit_6 ?_
  refine lv_icmp_le (tgt := 14) hx hb dX2_limit_9 (by decide) (fun c2 => ?_) (fun c2 => ?_)
  · have hok : sr_bok g k := ⟨c1, c2⟩
    obtain ⟨j, hj, rfl⟩ := nI_of hok.1
    have hjg : j ≤ g.1 := (nI_leI hj (by omega)).mp hok.2
    refine lv_iload_n hx hb dX2_limit_14 rfl (lv_at hl 1 rfl) ?_
    refine lv_if_eq (tgt := 26) hx hb dX2_limit_15 (by decide) (fun c3 => ?_) (fun c3 => ?_)
    · refine lv_iconst (v := (nI 0)) hx hb dX2_limit_26 (by decide +kernel) ?_
      exact W.iret hx hb hr (fun t ht hW => ⟨_, rfl, Or.inl ⟨hok, by rw [nI_clamp hj]; unfold sr_lim; rw [if_pos (Or.inl ((nI_eq hj (by decide)).mp c3))]⟩, ht⟩) (fun _ h => by cases h) dX2_limit_27
    refine lv_iload_n hx hb dX2_limit_18 rfl (lv_at hl 1 rfl) ?_
    refine lv_aload_n hx hb dX2_limit_19 rfl (lv_at hl 0 rfl) ?_
    refine va_get (D := D) (ci := 2) (v := .int (nI g.1)) (C := RX2) (T := TX2) (N := 10) hx hb hts in_X2 hown hKK.1 hP 0 rfl rfl 6 (by decide) (hts _ q188) (fun _ h9 => h9) rfl dX2_limit_20 ?_
    refine lv_icmp_ne (tgt := 28) hx hb dX2_limit_23 (by decide) (fun c4 => ?_) (fun c4 => ?_)
    · have h0 : 0 < j := Nat.pos_of_ne_zero (fun q => c3 (by rw [q]; rfl))
      have h9 : j < g.1 := by
        rcases Nat.lt_or_ge j g.1 with q | q
        · exact q
        · exact absurd (by rw [show j = g.1 by omega]) c4
      have hpred : nI j - nI 1 = nI (j - 1) := pk_sub h0
      have ha := hgm (j - 1) (by omega)
      have hbm := hgm j h9
      refine lv_iconst (v := (nI 0)) hx hb dX2_limit_28 (by decide +kernel) ?_
      refine lv_istore_n (lv' := [(2, .int (nI 0)), (0, .ref ay), (1, .int (nI j))]) hx hb dX2_limit_29 rfl hl (by decide) rfl (fun ls hl => ?_)
      refine lv_iconst (v := (nI 0)) hx hb dX2_limit_30 (by decide +kernel) ?_
      refine lv_istore_n (lv' := [(3, .int (nI 0)), (2, .int (nI 0)), (0, .ref ay), (1, .int (nI j))]) hx hb dX2_limit_31 rfl hl (by decide) rfl (fun ls hl => ?_)
      refine lv_iconst (v := (nI 0)) hx hb dX2_limit_32 (by decide +kernel) ?_
      refine lv_istore (lv' := [(4, .int (nI 0)), (3, .int (nI 0)), (2, .int (nI 0)), (0, .ref ay), (1, .int (nI j))]) hx hb dX2_limit_33 hl (by decide) rfl (fun ls hl => ?_)
      refine lv_iconst (v := (nI 0)) hx hb dX2_limit_35 (by decide +kernel) ?_
      refine lv_istore (lv' := [(5, .int (nI 0)), (4, .int (nI 0)), (3, .int (nI 0)), (2, .int (nI 0)), (0, .ref ay), (1, .int (nI j))]) hx hb dX2_limit_36 hl (by decide) rfl (fun ls hl => ?_)
      have loop : ∀ (n a : Nat) (ls : Array Slot), a ≤ 3 → 4 ≤ a + n → lv_has ls 8 [(5, .int (nI a)), (4, .int (sr_ps (g.2.2.2.2 j).2.2.1 (g.2.2.2.2 j).2.2.1 a)), (3, .int (sr_ps (g.2.2.2.2 (j - 1)).2.2.2 (g.2.2.2.2 (j - 1)).2.2.2 a)), (2, .int (sr_ps (g.2.2.2.2 (j - 1)).2.2.2 (g.2.2.2.2 j).2.2.1 a)), (0, .ref ay), (1, .int (nI j))] → W p l e (headSpec wsX2_limit ({ frames := 1, cells := 0, slots := 0, locals := 40 } : Room)).room s m ([.ref ay, .int (nI j)] : List Value).toArray below meth c s.heap [] 0 0 (MQ below (vp_Si (fun r => sr_pLim g (nI j) r)) ([.ref ay, .int (nI j)] : List Value).toArray s 0 0 (fun _ => False)) (F0 m 38 ls []) := by
        intro n
        induction n with
        | zero => intro a ls q1 q2; exact absurd q2 (by omega)
        | succ n ih =>
          intro a ls q1 q2 hl
          refine lv_iload hx hb dX2_limit_38 (lv_at hl 0 rfl) ?_
          refine lv_iconst (v := (nI 3)) hx hb dX2_limit_40 (by decide +kernel) ?_
          refine lv_icmp_ge (tgt := 104) hx hb dX2_limit_41 (by decide) (fun c5 => ?_) (fun c5 => ?_)
          · have ha3 : a = 3 := by have := (nI_leI (by decide) (by omega)).mp c5; omega
            subst ha3
            refine lv_aload_n hx hb dX2_limit_104 rfl (lv_at hl 4 rfl) ?_
            refine va_get (D := D) (ci := 2) (v := .ref be) (C := RX2) (T := TX2) (N := 10) hx hb hts in_X2 hown hKK.1 hP 0 rfl rfl 1 (by decide) (hts _ q183) (fun _ h9 => h9) rfl dX2_limit_105 ?_
            refine lv_iload_n hx hb dX2_limit_108 rfl (lv_at hl 5 rfl) ?_
            refine lv_iconst (v := (nI 1)) hx hb dX2_limit_109 (by decide +kernel) ?_
            refine lv_isub hx hb dX2_limit_110 ?_
            refine sr_ti (y := (nI (j - 1))) (hpred) ?_
            refine va_iald hx hb hKK.1 hP 1 0 rfl rfl (vp_in_nI (by omega) (by omega)) dX2_limit_111 ?_
            refine sr_ti (y := (nI (g.2.2.2.2 (j - 1)).2.1)) (by rw [nI_clamp (by omega)]; exact h1 (j - 1) (by omega)) ?_
            refine lv_aload_n hx hb dX2_limit_112 rfl (lv_at hl 4 rfl) ?_
            refine va_get (D := D) (ci := 2) (v := .ref be) (C := RX2) (T := TX2) (N := 10) hx hb hts in_X2 hown hKK.1 hP 0 rfl rfl 1 (by decide) (hts _ q183) (fun _ h9 => h9) rfl dX2_limit_113 ?_
            refine lv_iload_n hx hb dX2_limit_116 rfl (lv_at hl 5 rfl) ?_
            refine va_iald hx hb hKK.1 hP 1 0 rfl rfl (vp_in_nI (by omega) (by omega)) dX2_limit_117 ?_
            refine sr_ti (y := (nI (g.2.2.2.2 j).2.1)) (by rw [nI_clamp (by omega)]; exact h1 j h9) ?_
            refine va_mmin hx hb (by rw [hml]; exact hl.1.symm) hown (hts _ q246) (hts _ q129) (hts _ q12) (hts _ q130) (Nat.le_of_ble_eq_true rfl) (Nat.le_of_ble_eq_true rfl) (Nat.le_of_ble_eq_true rfl) (Nat.le_of_ble_eq_true rfl) dX2_limit_118 ?_
            refine lv_iload_n hx hb dX2_limit_121 rfl (lv_at hl 3 rfl) ?_
            refine lv_iconst (v := (nI 0)) hx hb dX2_limit_122 (by decide +kernel) ?_
            refine va_mmax hx hb (by rw [hml]; exact hl.1.symm) hown (hts _ q247) (hts _ q122) (hts _ q12) (hts _ q123) (Nat.le_of_ble_eq_true rfl) (Nat.le_of_ble_eq_true rfl) (Nat.le_of_ble_eq_true rfl) (Nat.le_of_ble_eq_true rfl) dX2_limit_123 ?_
            refine sr_ti (y := (sr_dp (g.2.2.2.2 (j - 1)).2.2.2 (g.2.2.2.2 j).2.2.1)) (by rw [sr_ps3]; exact (sr_ok_good ha.2.2.2.2.2 hbm.2.2.2.2.1).2.2.2.2.2) ?_
            refine lv_imul hx hb dX2_limit_126 ?_
            refine lv_iload_n hx hb dX2_limit_127 rfl (lv_at hl 2 rfl) ?_
            refine lv_iload hx hb dX2_limit_128 (lv_at hl 1 rfl) ?_
            refine va_mmax hx hb (by rw [hml]; exact hl.1.symm) hown (hts _ q247) (hts _ q122) (hts _ q12) (hts _ q123) (Nat.le_of_ble_eq_true rfl) (Nat.le_of_ble_eq_true rfl) (Nat.le_of_ble_eq_true rfl) (Nat.le_of_ble_eq_true rfl) dX2_limit_130 ?_
            refine sr_ti (y := (sr_gr (g.2.2.2.2 (j - 1)).2.2.2 (g.2.2.2.2 j).2.2.1)) (by rw [sr_ps3, sr_ps3]; rfl) ?_
            refine lv_idiv hx hb dX2_limit_133 (sr_gr_ne ha.2.2.2.2.2 hbm.2.2.2.2.1) ?_
            exact W.iret hx hb hr (fun t ht hW => ⟨_, rfl, Or.inl ⟨hok, by rw [nI_clamp hj, sr_cor_x ha hbm]; unfold sr_lim; rw [if_neg (by omega)]⟩, ht⟩) (fun _ h => by cases h) dX2_limit_134
          · have ha3 : a < 3 := Nat.lt_of_not_le (fun h => c5 (nI_le h (by omega)))
            refine lv_aload_n hx hb dX2_limit_44 rfl (lv_at hl 4 rfl) ?_
            refine va_get (D := D) (ci := 2) (v := .ref bl) (C := RX2) (T := TX2) (N := 10) hx hb hts in_X2 hown hKK.1 hP 0 rfl rfl 3 (by decide) (hts _ q185) (fun _ h9 => h9) rfl dX2_limit_45 ?_
            refine lv_iconst (v := (nI 3)) hx hb dX2_limit_48 (by decide +kernel) ?_
            refine lv_iload_n hx hb dX2_limit_49 rfl (lv_at hl 5 rfl) ?_
            refine lv_iconst (v := (nI 1)) hx hb dX2_limit_50 (by decide +kernel) ?_
            refine lv_isub hx hb dX2_limit_51 ?_
            refine sr_ti (y := (nI (j - 1))) (hpred) ?_
            refine lv_imul hx hb dX2_limit_52 ?_
            refine lv_iload hx hb dX2_limit_53 (lv_at hl 0 rfl) ?_
            refine lv_iadd hx hb dX2_limit_55 ?_
            refine sr_ti (y := (nI (3 * (j - 1) + a))) (by rw [pk_mul, nI_add]) ?_
            refine va_bald hx hb hKK.1 hP 3 1 rfl rfl (vp_in_nI (by omega) (by omega)) dX2_limit_56 ?_
            refine sr_ti (y := (sr_c (g.2.2.2.2 (j - 1)).2.2.2 a)) (by rw [nI_clamp (by omega)]; exact h3 (j - 1) (by omega) a ha3) ?_
            refine lv_istore (lv' := [(6, .int (sr_c (g.2.2.2.2 (j - 1)).2.2.2 a)), (5, .int (nI a)), (4, .int (sr_ps (g.2.2.2.2 j).2.2.1 (g.2.2.2.2 j).2.2.1 a)), (3, .int (sr_ps (g.2.2.2.2 (j - 1)).2.2.2 (g.2.2.2.2 (j - 1)).2.2.2 a)), (2, .int (sr_ps (g.2.2.2.2 (j - 1)).2.2.2 (g.2.2.2.2 j).2.2.1 a)), (0, .ref ay), (1, .int (nI j))]) hx hb dX2_limit_57 hl (by decide) rfl (fun ls hl => ?_)
            refine lv_aload_n hx hb dX2_limit_59 rfl (lv_at hl 5 rfl) ?_
            refine va_get (D := D) (ci := 2) (v := .ref bf) (C := RX2) (T := TX2) (N := 10) hx hb hts in_X2 hown hKK.1 hP 0 rfl rfl 2 (by decide) (hts _ q184) (fun _ h9 => h9) rfl dX2_limit_60 ?_
            refine lv_iconst (v := (nI 3)) hx hb dX2_limit_63 (by decide +kernel) ?_
            refine lv_iload_n hx hb dX2_limit_64 rfl (lv_at hl 6 rfl) ?_
            refine lv_imul hx hb dX2_limit_65 ?_
            refine lv_iload hx hb dX2_limit_66 (lv_at hl 1 rfl) ?_
            refine lv_iadd hx hb dX2_limit_68 ?_
            refine sr_ti (y := (nI (3 * j + a))) (by rw [pk_mul, nI_add]) ?_
            refine va_bald hx hb hKK.1 hP 2 1 rfl rfl (vp_in_nI (by omega) (by omega)) dX2_limit_69 ?_
            refine sr_ti (y := (sr_c (g.2.2.2.2 j).2.2.1 a)) (by rw [nI_clamp (by omega)]; exact h2 j h9 a ha3) ?_
            refine lv_istore (lv' := [(7, .int (sr_c (g.2.2.2.2 j).2.2.1 a)), (6, .int (sr_c (g.2.2.2.2 (j - 1)).2.2.2 a)), (5, .int (nI a)), (4, .int (sr_ps (g.2.2.2.2 j).2.2.1 (g.2.2.2.2 j).2.2.1 a)), (3, .int (sr_ps (g.2.2.2.2 (j - 1)).2.2.2 (g.2.2.2.2 (j - 1)).2.2.2 a)), (2, .int (sr_ps (g.2.2.2.2 (j - 1)).2.2.2 (g.2.2.2.2 j).2.2.1 a)), (0, .ref ay), (1, .int (nI j))]) hx hb dX2_limit_70 hl (by decide) rfl (fun ls hl => ?_)
            refine lv_iload_n hx hb dX2_limit_72 rfl (lv_at hl 5 rfl) ?_
            refine lv_iload hx hb dX2_limit_73 (lv_at hl 1 rfl) ?_
            refine lv_iload hx hb dX2_limit_75 (lv_at hl 0 rfl) ?_
            refine lv_imul hx hb dX2_limit_77 ?_
            refine lv_iadd hx hb dX2_limit_78 ?_
            refine sr_ti (y := (sr_ps (g.2.2.2.2 (j - 1)).2.2.2 (g.2.2.2.2 j).2.2.1 (a + 1))) (rfl) ?_
            refine lv_istore_n (lv' := [(2, .int (sr_ps (g.2.2.2.2 (j - 1)).2.2.2 (g.2.2.2.2 j).2.2.1 (a + 1))), (7, .int (sr_c (g.2.2.2.2 j).2.2.1 a)), (6, .int (sr_c (g.2.2.2.2 (j - 1)).2.2.2 a)), (5, .int (nI a)), (4, .int (sr_ps (g.2.2.2.2 j).2.2.1 (g.2.2.2.2 j).2.2.1 a)), (3, .int (sr_ps (g.2.2.2.2 (j - 1)).2.2.2 (g.2.2.2.2 (j - 1)).2.2.2 a)), (0, .ref ay), (1, .int (nI j))]) hx hb dX2_limit_79 rfl hl (by decide) rfl (fun ls hl => ?_)
            refine lv_iload_n hx hb dX2_limit_80 rfl (lv_at hl 5 rfl) ?_
            refine lv_iload hx hb dX2_limit_81 (lv_at hl 2 rfl) ?_
            refine lv_iload hx hb dX2_limit_83 (lv_at hl 2 rfl) ?_
            refine lv_imul hx hb dX2_limit_85 ?_
            refine lv_iadd hx hb dX2_limit_86 ?_
            refine sr_ti (y := (sr_ps (g.2.2.2.2 (j - 1)).2.2.2 (g.2.2.2.2 (j - 1)).2.2.2 (a + 1))) (rfl) ?_
            refine lv_istore_n (lv' := [(3, .int (sr_ps (g.2.2.2.2 (j - 1)).2.2.2 (g.2.2.2.2 (j - 1)).2.2.2 (a + 1))), (2, .int (sr_ps (g.2.2.2.2 (j - 1)).2.2.2 (g.2.2.2.2 j).2.2.1 (a + 1))), (7, .int (sr_c (g.2.2.2.2 j).2.2.1 a)), (6, .int (sr_c (g.2.2.2.2 (j - 1)).2.2.2 a)), (5, .int (nI a)), (4, .int (sr_ps (g.2.2.2.2 j).2.2.1 (g.2.2.2.2 j).2.2.1 a)), (0, .ref ay), (1, .int (nI j))]) hx hb dX2_limit_87 rfl hl (by decide) rfl (fun ls hl => ?_)
            refine lv_iload hx hb dX2_limit_88 (lv_at hl 5 rfl) ?_
            refine lv_iload hx hb dX2_limit_90 (lv_at hl 2 rfl) ?_
            refine lv_iload hx hb dX2_limit_92 (lv_at hl 2 rfl) ?_
            refine lv_imul hx hb dX2_limit_94 ?_
            refine lv_iadd hx hb dX2_limit_95 ?_
            refine sr_ti (y := (sr_ps (g.2.2.2.2 j).2.2.1 (g.2.2.2.2 j).2.2.1 (a + 1))) (rfl) ?_
            refine lv_istore (lv' := [(4, .int (sr_ps (g.2.2.2.2 j).2.2.1 (g.2.2.2.2 j).2.2.1 (a + 1))), (3, .int (sr_ps (g.2.2.2.2 (j - 1)).2.2.2 (g.2.2.2.2 (j - 1)).2.2.2 (a + 1))), (2, .int (sr_ps (g.2.2.2.2 (j - 1)).2.2.2 (g.2.2.2.2 j).2.2.1 (a + 1))), (7, .int (sr_c (g.2.2.2.2 j).2.2.1 a)), (6, .int (sr_c (g.2.2.2.2 (j - 1)).2.2.2 a)), (5, .int (nI a)), (0, .ref ay), (1, .int (nI j))]) hx hb dX2_limit_96 hl (by decide) rfl (fun ls hl => ?_)
            refine lv_iinc (v := (nI (a + 1))) (lv' := [(5, .int (nI (a + 1))), (4, .int (sr_ps (g.2.2.2.2 j).2.2.1 (g.2.2.2.2 j).2.2.1 (a + 1))), (3, .int (sr_ps (g.2.2.2.2 (j - 1)).2.2.2 (g.2.2.2.2 (j - 1)).2.2.2 (a + 1))), (2, .int (sr_ps (g.2.2.2.2 (j - 1)).2.2.2 (g.2.2.2.2 j).2.2.1 (a + 1))), (7, .int (sr_c (g.2.2.2.2 j).2.2.1 a)), (6, .int (sr_c (g.2.2.2.2 (j - 1)).2.2.2 a)), (0, .ref ay), (1, .int (nI j))]) hx hb dX2_limit_98 hl (k := 5) rfl (nI_1 a) (by decide) rfl (fun ls hl => ?_)
            refine lv_goto (tgt := 38) hx hb dX2_limit_101 (by decide) ?_
            exact ih (a + 1) ls (by omega) (by omega) (lv_sub hl [0, 1, 2, 3, 6, 7] rfl)
      exact loop 4 0 ls (by omega) (by omega) (lv_sub hl [0, 1, 2, 3, 4, 5] rfl)
    · refine lv_iconst (v := (nI 0)) hx hb dX2_limit_26 (by decide +kernel) ?_
      exact W.iret hx hb hr (fun t ht hW => ⟨_, rfl, Or.inl ⟨hok, by rw [nI_clamp hj]; unfold sr_lim; rw [if_pos (Or.inr ((nI_eq hj (by omega)).mp c4))]⟩, ht⟩) (fun _ h => by cases h) dX2_limit_27
  · refine lv_iconst (v := (-1)) hx hb dX2_limit_12 (by decide +kernel) ?_
    exact W.iret hx hb hr (fun t ht hW => ⟨_, rfl, Or.inr ⟨fun h => c2 h.2, rfl⟩, ht⟩) (fun _ h => by cases h) dX2_limit_13
end
section
/-! SpeedRowsModel: its world, and the methods that change it (told, first, last, move, back, acceleration, lowered, the constructor) -/
abbrev sr_mw (cI cB : ClassId) (ay bt be bf bl b1 b2 bq : Nat) (fs : List Value) (tk fe fi la f1 l1 sp : Nat → Int32) : va_W := [(ay, .inr (2, fs)), (bt, .inl (cI, 2000, .inl tk)), (be, .inl (cI, 2000, .inl fe)), (bf, .inl (cB, 6000, .inl fi)), (bl, .inl (cB, 6000, .inl la)), (b1, .inl (cB, 3, .inl f1)), (b2, .inl (cB, 3, .inl l1)), (bq, .inl (cI, 2001, .inl sp))]
abbrev sr_mf (bt be bf bl b1 b2 : Nat) (ct ac : Int32) (bq : Nat) (kn : Int32) : List Value := [.ref bt, .ref be, .ref bf, .ref bl, .ref b1, .ref b2, .int ct, .int ac, .ref bq, .int kn]
def sr_MI (g : sr_Sg) (tk fe fi la f1 l1 sp : Nat → Int32) (kn : Int32) : Prop :=
  (∀ i, i < g.1 → tk i = nI (g.2.2.2.2 i).1) ∧ (∀ i, i < g.1 → fe i = nI (g.2.2.2.2 i).2.1) ∧ (∀ i, i < g.1 → ∀ a, a < 3 → fi (3 * i + a) = sr_c (g.2.2.2.2 i).2.2.1 a) ∧ (∀ i, i < g.1 → ∀ a, a < 3 → la (3 * i + a) = sr_c (g.2.2.2.2 i).2.2.2 a) ∧ (∀ a, a < 3 → f1 a = sr_c g.2.2.1 a) ∧ (∀ a, a < 3 → l1 a = sr_c g.2.2.2.1 a) ∧ (kn = 0 ∨ (kn = 1 ∧ ∀ k, k ≤ g.1 → sp k = nI (sr_spd g k)))
/-- the reference's object at ay holds the state g -/
def sr_MR (cI cB : ClassId) (ay : Nat) (g : sr_Sg) (w : va_W) : Prop := ∃ (bt be bf bl b1 b2 bq : Nat) (tk fe fi la f1 l1 sp : Nat → Int32) (kn : Int32), w = sr_mw cI cB ay bt be bf bl b1 b2 bq (sr_mf bt be bf bl b1 b2 (nI g.1) (nI g.2.1) bq kn) tk fe fi la f1 l1 sp ∧ sr_MI g tk fe fi la f1 l1 sp kn
def sr_M1 (cI cB : ClassId) (ay : Nat) (g : sr_Sg) (w : va_W) : Prop := ∃ (bt be bf bl b1 b2 bq : Nat) (tk fe fi la f1 l1 sp : Nat → Int32), w = sr_mw cI cB ay bt be bf bl b1 b2 bq (sr_mf bt be bf bl b1 b2 (nI g.1) (nI g.2.1) bq 1) tk fe fi la f1 l1 sp ∧ sr_MI g tk fe fi la f1 l1 sp 1 ∧ ∀ k, k ≤ g.1 → sp k = nI (sr_spd g k)
theorem sr_set_self {w : va_W} {i : Nat} {p : Nat × va_E} (h : w[i]? = some p) : w.set i p = w := by
  apply List.ext_getElem?
  intro j
  by_cases q : j = i
  · rw [q, List.getElem?_set_self (List.getElem?_eq_some_iff.mp h).1, h]
  · rw [List.getElem?_set_ne (Ne.symm q)]
theorem sr_c3 {f : Nat → Int32} {x y z : Int32} (h0 : f 0 = x) (h1 : f 1 = y) (h2 : f 2 = z) : ∀ a, a < 3 → f a = sr_c (x, y, z) a := by
  intro a ha
  rcases (show a = 0 ∨ a = 1 ∨ a = 2 by omega) with rfl | rfl | rfl
  · exact h0
  · exact h1
  · exact h2
theorem sr_nar {x : Int32} (h1 : ¬ x < -1) (h2 : ¬ 1 < x) : vp_nar .byte x.toInt8.toInt32 = x := by rw [pk_vb, sr_byte h1 h2]
abbrev wsX2_told : List Cond := ws_ yX2_told cX2_told 4 (some .boolean)
abbrev wsX2_first : List Cond := ws_ yX2_first cX2_first 4 (some .boolean)
abbrev wsX2_last : List Cond := ws_ yX2_last cX2_last 4 (some .boolean)
abbrev wsX2_move : List Cond := ws_ yX2_move cX2_move 4 (some .int)
abbrev wsX2_back : List Cond := ws_ yX2_back cX2_back 2 (some .int)
abbrev wsX2_acceleration : List Cond := ws_ yX2_acceleration cX2_acceleration 2 (some .boolean)
abbrev wsX2_lowered : List Cond := ws_ yX2_lowered cX2_lowered 3 (some .boolean)
abbrev wsX2_init : List Cond := ws_ yX2_init cX2_init 1 none
set_option maxHeartbeats 4000000 in
set_option maxRecDepth 100000 in
/-- told(step, x, y, z) -/
theorem sr_X2_told (l : Launch) (D : va_G) (cI cB cM : ClassId) (sz : Nat) (w : va_W) (hD0 : va_D (fun _ => True) w) (q0 b : Nat) (f : Nat → Int32) (hw : w[q0]? = some (b, .inl (cB, 3, .inl f))) (x y z : Int32) : sr_CtI l D cI cB cM yX2_told wsX2_told ({ frames := 1, cells := 0, slots := 0, locals := 22 } : Room) [.ref b, .int x, .int y, .int z] w sz (fun r u => r = sr_isOne x y z ∧ ∃ f' : Nat → Int32, u = w.set q0 (b, .inl (cB, 3, .inl f')) ∧ ((sr_isOne x y z = 1 ∧ ∀ a, a < 3 → f' a = sr_c (x, y, z) a) ∨ (sr_isOne x y z = 0 ∧ f' = f))) 0 0 := by
  refine Met.ofW (cc := cX2_told) (maxL := 4) (ret := (some .boolean)) (by decide) rfl ?_
  intro p e s m args below meth c s₁ B hml hv
  obtain ⟨rfl, hKK, hsz, hP⟩ := hv
  have hx := B.exec
  have hb := B.bytes
  have hr := B.returns
  have hts := atoms_spec (ws := wsX2_told) B.pre
  have hts : ∀ w ∈ lw_all, w.before _ s = true := fun w h => hts w (List.mem_cons_of_mem _ h)
  have hown : s.vm.findClass RX2 = some m.cls := findClass_of_methodNamed B.named
  have hlocks := B.notSynchronized
  subst hsz
  have hD := hD0.self (sz := s.heap.size)
  generalize hAe : va_A w s.heap.size = A at hD ⊢
  have hA : ∀ q : Nat, s.heap.size ≤ q → A q := fun q h => by rw [← hAe]; exact Or.inr h
  have hS : va_S A s.heap s.heap [] := va_S.rf
  have hP : va_P D vwCl w s.heap := hP
  have hl := lv_entry ([.ref b, .int x, .int y, .int z]) (n := 4) (Nat.le_of_ble_eq_true rfl)
  rw [lg_entry_eq]
  generalize (lg_sl ([.ref b, .int x, .int y, .int z]) ++ List.replicate (4 - (lg_sl ([.ref b, .int x, .int y, .int z])).length) Slot.unset).toArray = ls at hl ⊢
  have hl : lv_has ls 4 [(0, .ref b), (1, .int x), (2, .int y), (3, .int z)] := hl
  refine lv_iload_n hx hb dX2_told_0 rfl (lv_at hl 1 rfl) ?_
  refine lv_iload_n hx hb dX2_told_1 rfl (lv_at hl 2 rfl) ?_
  refine lv_iload_n hx hb dX2_told_2 rfl (lv_at hl 3 rfl) ?_
  refine vp_callSi (W.runS (As := [.int x, .int y, .int z]) (rest := []) ⟨hx, hb, hml, hown, hts⟩ (sr_X2_isStep l D cI cB cM x y z) (va_cwS 3 hts (lw_S q221 q222 q10 q223) rfl rfl rfl (by decide +kernel) ⟨Nat.le_of_ble_eq_true rfl, Nat.le_of_ble_eq_true rfl⟩) (sr_preS hKK sr_P0) rfl rfl hl.1 rfl (lv_room (Nat.le_of_ble_eq_true rfl)) dX2_told_3 ⟨Nat.le_of_ble_eq_true rfl, Nat.le_of_ble_eq_true rfl⟩) (fun r1 hr1 => ?_)
  have hr1 := hr1.symm
  subst hr1
  refine lv_if_ne (tgt := 11) hx hb dX2_told_6 (by decide) (fun c1 => ?_) (fun c1 => ?_)
  · have h1 : sr_isOne x y z = 1 := (sr_isOne_01 x y z).resolve_left c1
    obtain ⟨o1, o2, o3, o4, o5, o6⟩ := sr_okT_iff _ _ _ h1
    have hlen : q0 < w.length := (List.getElem?_eq_some_iff.mp hw).1
    refine lv_aload_n hx hb dX2_told_11 rfl (lv_at hl 0 rfl) ?_
    refine lv_iconst (v := (nI 0)) hx hb dX2_told_12 (by decide +kernel) ?_
    refine lv_iload_n hx hb dX2_told_13 rfl (lv_at hl 1 rfl) ?_
    refine lv_i2b (v := x.toInt8.toInt32) hx hb dX2_told_14 rfl ?_
    refine va_bast hx hb hKK.1 hP hD hS q0 1 hw rfl (vp_in_nI (by decide) (by decide)) dX2_told_15 (fun H locs hP hD hS => ?_)
    have ef0 : upd f (nI 0).toNatClampNeg (vp_nar .byte x.toInt8.toInt32) = (upd f 0 x) := by rw [sr_nar o1 o2, nI_clamp (by decide)]
    rw [ef0] at hP hD
    have hw1 : (w.set q0 (b, .inl (cB, 3, .inl (upd f 0 x))))[q0]? = some (b, .inl (cB, 3, .inl (upd f 0 x))) := List.getElem?_set_self hlen
    refine lv_aload_n hx hb dX2_told_16 rfl (lv_at hl 0 rfl) ?_
    refine lv_iconst (v := (nI 1)) hx hb dX2_told_17 (by decide +kernel) ?_
    refine lv_iload_n hx hb dX2_told_18 rfl (lv_at hl 2 rfl) ?_
    refine lv_i2b (v := y.toInt8.toInt32) hx hb dX2_told_19 rfl ?_
    refine va_bast hx hb hKK.1 hP hD hS q0 1 hw1 rfl (vp_in_nI (by decide) (by decide)) dX2_told_20 (fun H locs hP hD hS => ?_)
    have ef1 : upd (upd f 0 x) (nI 1).toNatClampNeg (vp_nar .byte y.toInt8.toInt32) = (upd (upd f 0 x) 1 y) := by rw [sr_nar o3 o4, nI_clamp (by decide)]
    rw [ef1] at hP hD
    rw [List.set_set] at hP hD
    have hw2 : (w.set q0 (b, .inl (cB, 3, .inl (upd (upd f 0 x) 1 y))))[q0]? = some (b, .inl (cB, 3, .inl (upd (upd f 0 x) 1 y))) := List.getElem?_set_self hlen
    refine lv_aload_n hx hb dX2_told_21 rfl (lv_at hl 0 rfl) ?_
    refine lv_iconst (v := (nI 2)) hx hb dX2_told_22 (by decide +kernel) ?_
    refine lv_iload_n hx hb dX2_told_23 rfl (lv_at hl 3 rfl) ?_
    refine lv_i2b (v := z.toInt8.toInt32) hx hb dX2_told_24 rfl ?_
    refine va_bast hx hb hKK.1 hP hD hS q0 1 hw2 rfl (vp_in_nI (by decide) (by decide)) dX2_told_25 (fun H locs hP hD hS => ?_)
    have ef2 : upd (upd (upd f 0 x) 1 y) (nI 2).toNatClampNeg (vp_nar .byte z.toInt8.toInt32) = (upd (upd (upd f 0 x) 1 y) 2 z) := by rw [sr_nar o5 o6, nI_clamp (by decide)]
    rw [ef2] at hP hD
    rw [List.set_set] at hP hD
    have hw3 : (w.set q0 (b, .inl (cB, 3, .inl (upd (upd (upd f 0 x) 1 y) 2 z))))[q0]? = some (b, .inl (cB, 3, .inl (upd (upd (upd f 0 x) 1 y) 2 z))) := List.getElem?_set_self hlen
    refine lv_iconst (v := (nI 1)) hx hb dX2_told_26 (by decide +kernel) ?_
    exact W.zret hx hb hr rfl (fun t ht hW => ⟨⟨_, _, rfl, ⟨h1.symm, _, rfl, Or.inl ⟨h1, sr_c3 rfl rfl rfl⟩⟩, by rw [ht]; exact hP, hD⟩, hS.F ht⟩) hS.2.2 dX2_told_27
  · refine lv_iconst (v := (nI 0)) hx hb dX2_told_9 (by decide +kernel) ?_
    exact W.zret hx hb hr rfl (fun t ht hW => ⟨⟨_, w, rfl, ⟨c1.symm, f, (sr_set_self hw).symm, Or.inr ⟨c1, rfl⟩⟩, by rw [ht]; exact hP, hD⟩, hS.F ht⟩) hS.2.2 dX2_told_10
set_option maxHeartbeats 4000000 in
set_option maxRecDepth 100000 in
/-- first(x, y, z) -/
theorem sr_X2_first (l : Launch) (D : va_G) (cI cB cM : ClassId) (ay sz : Nat) (g : sr_Sg) (hg : sr_OK g) (w : va_W) (hw : sr_MR cI cB ay g w) (hD0 : va_D (fun _ => True) w) (x y z : Int32) : sr_CtI l D cI cB cM yX2_first wsX2_first ({ frames := 2, cells := 0, slots := 0, locals := 45 } : Room) [.ref ay, .int x, .int y, .int z] w sz (fun r u => r = sr_isOne x y z ∧ sr_MR cI cB ay (sr_sFirst g x y z) u) 0 0 := by
  obtain ⟨bt, be, bf, bl, b1, b2, bq, tk, fe, fi, la, f1, l1, sp, kn, rfl, i1, i2, i3, i4, i5, i6, i7⟩ := hw
  refine Met.ofW (cc := cX2_first) (maxL := 4) (ret := (some .boolean)) (by decide) rfl ?_
  intro p e s m args below meth c s₁ B hml hv
  obtain ⟨rfl, hKK, hsz, hP⟩ := hv
  have hx := B.exec
  have hb := B.bytes
  have hr := B.returns
  have hts := atoms_spec (ws := wsX2_first) B.pre
  have hts : ∀ w ∈ lw_all, w.before _ s = true := fun w h => hts w (List.mem_cons_of_mem _ h)
  have hown : s.vm.findClass RX2 = some m.cls := findClass_of_methodNamed B.named
  have hlocks := B.notSynchronized
  subst hsz
  have hD := hD0.self (sz := s.heap.size)
  generalize hAe : va_A [(ay, .inr (2, [.ref bt, .ref be, .ref bf, .ref bl, .ref b1, .ref b2, .int (nI g.1), .int (nI g.2.1), .ref bq, .int kn])), (bt, .inl (cI, 2000, .inl tk)), (be, .inl (cI, 2000, .inl fe)), (bf, .inl (cB, 6000, .inl fi)), (bl, .inl (cB, 6000, .inl la)), (b1, .inl (cB, 3, .inl f1)), (b2, .inl (cB, 3, .inl l1)), (bq, .inl (cI, 2001, .inl sp))] s.heap.size = A at hD ⊢
  have hA : ∀ q : Nat, s.heap.size ≤ q → A q := fun q h => by rw [← hAe]; exact Or.inr h
  have hS : va_S A s.heap s.heap [] := va_S.rf
  have hP : va_P D vwCl [(ay, .inr (2, [.ref bt, .ref be, .ref bf, .ref bl, .ref b1, .ref b2, .int (nI g.1), .int (nI g.2.1), .ref bq, .int kn])), (bt, .inl (cI, 2000, .inl tk)), (be, .inl (cI, 2000, .inl fe)), (bf, .inl (cB, 6000, .inl fi)), (bl, .inl (cB, 6000, .inl la)), (b1, .inl (cB, 3, .inl f1)), (b2, .inl (cB, 3, .inl l1)), (bq, .inl (cI, 2001, .inl sp))] s.heap := hP
  have hl := lv_entry ([.ref ay, .int x, .int y, .int z]) (n := 4) (Nat.le_of_ble_eq_true rfl)
  rw [lg_entry_eq]
  generalize (lg_sl ([.ref ay, .int x, .int y, .int z]) ++ List.replicate (4 - (lg_sl ([.ref ay, .int x, .int y, .int z])).length) Slot.unset).toArray = ls at hl ⊢
  have hl : lv_has ls 4 [(0, .ref ay), (1, .int x), (2, .int y), (3, .int z)] := hl
  refine lv_aload_n hx hb dX2_first_0 rfl (lv_at hl 0 rfl) ?_
  refine va_get (D := D) (ci := 2) (v := .ref b1) (C := RX2) (T := TX2) (N := 10) hx hb hts in_X2 hown hKK.1 hP 0 rfl rfl 4 (by decide) (hts _ q186) (fun _ h9 => h9) rfl dX2_first_1 ?_
  refine lv_iload_n hx hb dX2_first_4 rfl (lv_at hl 1 rfl) ?_
  refine lv_iload_n hx hb dX2_first_5 rfl (lv_at hl 2 rfl) ?_
  refine lv_iload_n hx hb dX2_first_6 rfl (lv_at hl 3 rfl) ?_
  have hF := sr_fW hD hS hA
  refine va_calli (va_runS (As := [.ref b1, .int x, .int y, .int z]) (rest := []) ⟨hx, hb, hml, hown, hts⟩ (sr_X2_told l D cI cB cM s.heap.size _ (hD.weaken (fun _ _ _ _ => trivial)) 5 b1 f1 rfl x y z) (va_cwS 4 hts (lw_S q218 q219 q10 q220) rfl rfl rfl (by decide +kernel) ⟨Nat.le_of_ble_eq_true rfl, Nat.le_of_ble_eq_true rfl⟩) (sr_preS hKK ⟨rfl, hP⟩) rfl rfl hl.1 rfl (lv_room (Nat.le_of_ble_eq_true rfl)) dX2_first_7 ⟨Nat.le_of_ble_eq_true rfl, Nat.le_of_ble_eq_true rfl⟩) hS (fun q _ h => hF q h) hF (fun r u t H1 locs ht hvm hw1 hB hz1 hk1 hS => ?_)
  obtain ⟨hP1, hD1⟩ := hB
  rw [ht] at hP1
  have hD1 := hD1.weaken (B := A) (fun k q _ h => hF q.1 h)
  obtain ⟨er, f9, rfl, hf9⟩ := hw1
  have er := er.symm
  subst er
  generalize H1 = H at hP1 hS ⊢
  have hP : va_P D vwCl [(ay, .inr (2, [.ref bt, .ref be, .ref bf, .ref bl, .ref b1, .ref b2, .int (nI g.1), .int (nI g.2.1), .ref bq, .int kn])), (bt, .inl (cI, 2000, .inl tk)), (be, .inl (cI, 2000, .inl fe)), (bf, .inl (cB, 6000, .inl fi)), (bl, .inl (cB, 6000, .inl la)), (b1, .inl (cB, 3, .inl f9)), (b2, .inl (cB, 3, .inl l1)), (bq, .inl (cI, 2001, .inl sp))] H := hP1
  have hD : va_D A [(ay, .inr (2, [.ref bt, .ref be, .ref bf, .ref bl, .ref b1, .ref b2, .int (nI g.1), .int (nI g.2.1), .ref bq, .int kn])), (bt, .inl (cI, 2000, .inl tk)), (be, .inl (cI, 2000, .inl fe)), (bf, .inl (cB, 6000, .inl fi)), (bl, .inl (cB, 6000, .inl la)), (b1, .inl (cB, 3, .inl f9)), (b2, .inl (cB, 3, .inl l1)), (bq, .inl (cI, 2001, .inl sp))] := hD1
  have hmr : sr_MR cI cB ay (sr_sFirst g x y z) [(ay, .inr (2, [.ref bt, .ref be, .ref bf, .ref bl, .ref b1, .ref b2, .int (nI g.1), .int (nI g.2.1), .ref bq, .int kn])), (bt, .inl (cI, 2000, .inl tk)), (be, .inl (cI, 2000, .inl fe)), (bf, .inl (cB, 6000, .inl fi)), (bl, .inl (cB, 6000, .inl la)), (b1, .inl (cB, 3, .inl f9)), (b2, .inl (cB, 3, .inl l1)), (bq, .inl (cI, 2001, .inl sp))] := by
    rcases hf9 with ⟨h1, hq⟩ | ⟨h1, hq⟩
    · rw [show sr_sFirst g x y z = (g.1, g.2.1, (x, y, z), g.2.2.2.1, g.2.2.2.2) from if_pos h1]
      exact ⟨bt, be, bf, bl, b1, b2, bq, tk, fe, fi, la, f9, l1, sp, kn, rfl, i1, i2, i3, i4, hq, i6, i7⟩
    · rw [show sr_sFirst g x y z = g from if_neg (by rw [h1]; decide), hq]
      exact ⟨bt, be, bf, bl, b1, b2, bq, tk, fe, fi, la, f1, l1, sp, kn, rfl, i1, i2, i3, i4, i5, i6, i7⟩
  refine W.zret hx hb hr (by rcases sr_isOne_01 x y z with q | q <;> rw [q] <;> rfl) (fun t ht hW => ⟨⟨_, _, rfl, ⟨rfl, hmr⟩, by rw [ht]; exact hP, hD⟩, hS.F ht⟩) hS.2.2 dX2_first_10
set_option maxHeartbeats 4000000 in
set_option maxRecDepth 100000 in
/-- last(x, y, z) -/
theorem sr_X2_last (l : Launch) (D : va_G) (cI cB cM : ClassId) (ay sz : Nat) (g : sr_Sg) (hg : sr_OK g) (w : va_W) (hw : sr_MR cI cB ay g w) (hD0 : va_D (fun _ => True) w) (x y z : Int32) : sr_CtI l D cI cB cM yX2_last wsX2_last ({ frames := 2, cells := 0, slots := 0, locals := 45 } : Room) [.ref ay, .int x, .int y, .int z] w sz (fun r u => r = sr_isOne x y z ∧ sr_MR cI cB ay (sr_sLast g x y z) u) 0 0 := by
  obtain ⟨bt, be, bf, bl, b1, b2, bq, tk, fe, fi, la, f1, l1, sp, kn, rfl, i1, i2, i3, i4, i5, i6, i7⟩ := hw
  refine Met.ofW (cc := cX2_last) (maxL := 4) (ret := (some .boolean)) (by decide) rfl ?_
  intro p e s m args below meth c s₁ B hml hv
  obtain ⟨rfl, hKK, hsz, hP⟩ := hv
  have hx := B.exec
  have hb := B.bytes
  have hr := B.returns
  have hts := atoms_spec (ws := wsX2_last) B.pre
  have hts : ∀ w ∈ lw_all, w.before _ s = true := fun w h => hts w (List.mem_cons_of_mem _ h)
  have hown : s.vm.findClass RX2 = some m.cls := findClass_of_methodNamed B.named
  have hlocks := B.notSynchronized
  subst hsz
  have hD := hD0.self (sz := s.heap.size)
  generalize hAe : va_A [(ay, .inr (2, [.ref bt, .ref be, .ref bf, .ref bl, .ref b1, .ref b2, .int (nI g.1), .int (nI g.2.1), .ref bq, .int kn])), (bt, .inl (cI, 2000, .inl tk)), (be, .inl (cI, 2000, .inl fe)), (bf, .inl (cB, 6000, .inl fi)), (bl, .inl (cB, 6000, .inl la)), (b1, .inl (cB, 3, .inl f1)), (b2, .inl (cB, 3, .inl l1)), (bq, .inl (cI, 2001, .inl sp))] s.heap.size = A at hD ⊢
  have hA : ∀ q : Nat, s.heap.size ≤ q → A q := fun q h => by rw [← hAe]; exact Or.inr h
  have hS : va_S A s.heap s.heap [] := va_S.rf
  have hP : va_P D vwCl [(ay, .inr (2, [.ref bt, .ref be, .ref bf, .ref bl, .ref b1, .ref b2, .int (nI g.1), .int (nI g.2.1), .ref bq, .int kn])), (bt, .inl (cI, 2000, .inl tk)), (be, .inl (cI, 2000, .inl fe)), (bf, .inl (cB, 6000, .inl fi)), (bl, .inl (cB, 6000, .inl la)), (b1, .inl (cB, 3, .inl f1)), (b2, .inl (cB, 3, .inl l1)), (bq, .inl (cI, 2001, .inl sp))] s.heap := hP
  have hl := lv_entry ([.ref ay, .int x, .int y, .int z]) (n := 4) (Nat.le_of_ble_eq_true rfl)
  rw [lg_entry_eq]
  generalize (lg_sl ([.ref ay, .int x, .int y, .int z]) ++ List.replicate (4 - (lg_sl ([.ref ay, .int x, .int y, .int z])).length) Slot.unset).toArray = ls at hl ⊢
  have hl : lv_has ls 4 [(0, .ref ay), (1, .int x), (2, .int y), (3, .int z)] := hl
  refine lv_aload_n hx hb dX2_last_0 rfl (lv_at hl 0 rfl) ?_
  refine va_get (D := D) (ci := 2) (v := .ref b2) (C := RX2) (T := TX2) (N := 10) hx hb hts in_X2 hown hKK.1 hP 0 rfl rfl 5 (by decide) (hts _ q187) (fun _ h9 => h9) rfl dX2_last_1 ?_
  refine lv_iload_n hx hb dX2_last_4 rfl (lv_at hl 1 rfl) ?_
  refine lv_iload_n hx hb dX2_last_5 rfl (lv_at hl 2 rfl) ?_
  refine lv_iload_n hx hb dX2_last_6 rfl (lv_at hl 3 rfl) ?_
  have hF := sr_fW hD hS hA
  refine va_calli (va_runS (As := [.ref b2, .int x, .int y, .int z]) (rest := []) ⟨hx, hb, hml, hown, hts⟩ (sr_X2_told l D cI cB cM s.heap.size _ (hD.weaken (fun _ _ _ _ => trivial)) 6 b2 l1 rfl x y z) (va_cwS 4 hts (lw_S q218 q219 q10 q220) rfl rfl rfl (by decide +kernel) ⟨Nat.le_of_ble_eq_true rfl, Nat.le_of_ble_eq_true rfl⟩) (sr_preS hKK ⟨rfl, hP⟩) rfl rfl hl.1 rfl (lv_room (Nat.le_of_ble_eq_true rfl)) dX2_last_7 ⟨Nat.le_of_ble_eq_true rfl, Nat.le_of_ble_eq_true rfl⟩) hS (fun q _ h => hF q h) hF (fun r u t H1 locs ht hvm hw1 hB hz1 hk1 hS => ?_)
  obtain ⟨hP1, hD1⟩ := hB
  rw [ht] at hP1
  have hD1 := hD1.weaken (B := A) (fun k q _ h => hF q.1 h)
  obtain ⟨er, f9, rfl, hf9⟩ := hw1
  have er := er.symm
  subst er
  generalize H1 = H at hP1 hS ⊢
  have hP : va_P D vwCl [(ay, .inr (2, [.ref bt, .ref be, .ref bf, .ref bl, .ref b1, .ref b2, .int (nI g.1), .int (nI g.2.1), .ref bq, .int kn])), (bt, .inl (cI, 2000, .inl tk)), (be, .inl (cI, 2000, .inl fe)), (bf, .inl (cB, 6000, .inl fi)), (bl, .inl (cB, 6000, .inl la)), (b1, .inl (cB, 3, .inl f1)), (b2, .inl (cB, 3, .inl f9)), (bq, .inl (cI, 2001, .inl sp))] H := hP1
  have hD : va_D A [(ay, .inr (2, [.ref bt, .ref be, .ref bf, .ref bl, .ref b1, .ref b2, .int (nI g.1), .int (nI g.2.1), .ref bq, .int kn])), (bt, .inl (cI, 2000, .inl tk)), (be, .inl (cI, 2000, .inl fe)), (bf, .inl (cB, 6000, .inl fi)), (bl, .inl (cB, 6000, .inl la)), (b1, .inl (cB, 3, .inl f1)), (b2, .inl (cB, 3, .inl f9)), (bq, .inl (cI, 2001, .inl sp))] := hD1
  have hmr : sr_MR cI cB ay (sr_sLast g x y z) [(ay, .inr (2, [.ref bt, .ref be, .ref bf, .ref bl, .ref b1, .ref b2, .int (nI g.1), .int (nI g.2.1), .ref bq, .int kn])), (bt, .inl (cI, 2000, .inl tk)), (be, .inl (cI, 2000, .inl fe)), (bf, .inl (cB, 6000, .inl fi)), (bl, .inl (cB, 6000, .inl la)), (b1, .inl (cB, 3, .inl f1)), (b2, .inl (cB, 3, .inl f9)), (bq, .inl (cI, 2001, .inl sp))] := by
    rcases hf9 with ⟨h1, hq⟩ | ⟨h1, hq⟩
    · rw [show sr_sLast g x y z = (g.1, g.2.1, g.2.2.1, (x, y, z), g.2.2.2.2) from if_pos h1]
      exact ⟨bt, be, bf, bl, b1, b2, bq, tk, fe, fi, la, f1, f9, sp, kn, rfl, i1, i2, i3, i4, i5, hq, i7⟩
    · rw [show sr_sLast g x y z = g from if_neg (by rw [h1]; decide), hq]
      exact ⟨bt, be, bf, bl, b1, b2, bq, tk, fe, fi, la, f1, l1, sp, kn, rfl, i1, i2, i3, i4, i5, i6, i7⟩
  refine W.zret hx hb hr (by rcases sr_isOne_01 x y z with q | q <;> rw [q] <;> rfl) (fun t ht hW => ⟨⟨_, _, rfl, ⟨rfl, hmr⟩, by rw [ht]; exact hP, hD⟩, hS.F ht⟩) hS.2.2 dX2_last_10
set_option maxHeartbeats 4000000 in
set_option maxRecDepth 100000 in
/-- back(n) -/
theorem sr_X2_back (l : Launch) (D : va_G) (cI cB cM : ClassId) (ay sz : Nat) (g : sr_Sg) (hg : sr_OK g) (w : va_W) (hw : sr_MR cI cB ay g w) (hD0 : va_D (fun _ => True) w) (n : Int32) : sr_CtI l D cI cB cM yX2_back wsX2_back ({ frames := 0, cells := 0, slots := 0, locals := 0 } : Room) [.ref ay, .int n] w sz (fun r u => ∃ g', sr_pBack g n r g' ∧ sr_MR cI cB ay g' u) 0 0 := by
  obtain ⟨bt, be, bf, bl, b1, b2, bq, tk, fe, fi, la, f1, l1, sp, kn, rfl, i1, i2, i3, i4, i5, i6, i7⟩ := hw
  refine Met.ofW (cc := cX2_back) (maxL := 2) (ret := (some .int)) (by decide) rfl ?_
  intro p e s m args below meth c s₁ B hml hv
  obtain ⟨rfl, hKK, hsz, hP⟩ := hv
  have hx := B.exec
  have hb := B.bytes
  have hr := B.returns
  have hts := atoms_spec (ws := wsX2_back) B.pre
  have hts : ∀ w ∈ lw_all, w.before _ s = true := fun w h => hts w (List.mem_cons_of_mem _ h)
  have hown : s.vm.findClass RX2 = some m.cls := findClass_of_methodNamed B.named
  have hlocks := B.notSynchronized
  subst hsz
  have hD := hD0.self (sz := s.heap.size)
  generalize hAe : va_A [(ay, .inr (2, [.ref bt, .ref be, .ref bf, .ref bl, .ref b1, .ref b2, .int (nI g.1), .int (nI g.2.1), .ref bq, .int kn])), (bt, .inl (cI, 2000, .inl tk)), (be, .inl (cI, 2000, .inl fe)), (bf, .inl (cB, 6000, .inl fi)), (bl, .inl (cB, 6000, .inl la)), (b1, .inl (cB, 3, .inl f1)), (b2, .inl (cB, 3, .inl l1)), (bq, .inl (cI, 2001, .inl sp))] s.heap.size = A at hD ⊢
  have hA : ∀ q : Nat, s.heap.size ≤ q → A q := fun q h => by rw [← hAe]; exact Or.inr h
  have hS : va_S A s.heap s.heap [] := va_S.rf
  have hP : va_P D vwCl [(ay, .inr (2, [.ref bt, .ref be, .ref bf, .ref bl, .ref b1, .ref b2, .int (nI g.1), .int (nI g.2.1), .ref bq, .int kn])), (bt, .inl (cI, 2000, .inl tk)), (be, .inl (cI, 2000, .inl fe)), (bf, .inl (cB, 6000, .inl fi)), (bl, .inl (cB, 6000, .inl la)), (b1, .inl (cB, 3, .inl f1)), (b2, .inl (cB, 3, .inl l1)), (bq, .inl (cI, 2001, .inl sp))] s.heap := hP
  have hl := lv_entry ([.ref ay, .int n]) (n := 2) (Nat.le_of_ble_eq_true rfl)
  rw [lg_entry_eq]
  generalize (lg_sl ([.ref ay, .int n]) ++ List.replicate (2 - (lg_sl ([.ref ay, .int n])).length) Slot.unset).toArray = ls at hl ⊢
  have hl : lv_has ls 2 [(0, .ref ay), (1, .int n)] := hl
  refine lv_iload_n hx hb dX2_back_0 rfl (lv_at hl 1 rfl) ?_
  refine lv_if_lt (tgt := 12) hx hb dX2_back_1 (by decide) (fun c1 => ?_) (fun c1 => ?_)
  · refine lv_iconst (v := (-1)) hx hb dX2_back_12 (by decide +kernel) ?_
    exact W.iret hx hb hr (fun t ht hW => ⟨⟨_, _, rfl, ⟨g, Or.inr ⟨fun h => h.1 c1, rfl, rfl⟩, ⟨bt, be, bf, bl, b1, b2, bq, tk, fe, fi, la, f1, l1, sp, kn, rfl, i1, i2, i3, i4, i5, i6, i7⟩⟩, by rw [ht]; exact hP, hD⟩, hS.F ht⟩) hS.2.2 dX2_back_13
  refine lv_iload_n hx hb dX2_back_4 rfl (lv_at hl 1 rfl) ?_
  refine lv_aload_n hx hb dX2_back_5 rfl (lv_at hl 0 rfl) ?_
  refine va_get (D := D) (ci := 2) (v := .int (nI g.1)) (C := RX2) (T := TX2) (N := 10) hx hb hts in_X2 hown hKK.1 hP 0 rfl rfl 6 (by decide) (hts _ q188) (fun _ h9 => h9) rfl dX2_back_6 ?_
  refine lv_icmp_le (tgt := 14) hx hb dX2_back_9 (by decide) (fun c2 => ?_) (fun c2 => ?_)
  · obtain ⟨j, hj, rfl⟩ := nI_of c1
    have hg1 := hg.1
    have hjg : j ≤ g.1 := (nI_leI hj (by omega)).mp c2
    have hgb : sr_sBack g (nI j) = (g.1 - j, g.2.1, g.2.2.1, g.2.2.2.1, g.2.2.2.2) := by unfold sr_sBack; rw [nI_clamp hj]
    refine lv_aload_n hx hb dX2_back_14 rfl (lv_at hl 0 rfl) ?_
    refine lv_dup hx hb dX2_back_15 rfl ?_
    refine va_get (D := D) (ci := 2) (v := .int (nI g.1)) (C := RX2) (T := TX2) (N := 10) hx hb hts in_X2 hown hKK.1 hP 0 rfl rfl 6 (by decide) (hts _ q188) (fun _ h9 => h9) rfl dX2_back_16 ?_
    refine lv_iload_n hx hb dX2_back_19 rfl (lv_at hl 1 rfl) ?_
    refine lv_isub hx hb dX2_back_20 ?_
    refine sr_ti (y := (nI (g.1 - j))) (pk_sub hjg) ?_
    refine va_put (D := D) (ci := 2) (v := .int (nI (g.1 - j))) (ty := .int) (C := RX2) (T := TX2) (N := 10) hx hb hts in_X2 tyX2 tyX2_ok nmX2 hown hKK.1 hP hD hS 0 rfl rfl 6 (by decide) (hts _ q188) (fun _ h9 => h9) rfl (by decide +kernel) rfl rfl (Nat.le_of_ble_eq_true rfl) dX2_back_21 (fun H locs hP hD hS => ?_)
    have hP : va_P D vwCl [(ay, .inr (2, [.ref bt, .ref be, .ref bf, .ref bl, .ref b1, .ref b2, .int (nI (g.1 - j)), .int (nI g.2.1), .ref bq, .int kn])), (bt, .inl (cI, 2000, .inl tk)), (be, .inl (cI, 2000, .inl fe)), (bf, .inl (cB, 6000, .inl fi)), (bl, .inl (cB, 6000, .inl la)), (b1, .inl (cB, 3, .inl f1)), (b2, .inl (cB, 3, .inl l1)), (bq, .inl (cI, 2001, .inl sp))] H := hP
    have hD : va_D A [(ay, .inr (2, [.ref bt, .ref be, .ref bf, .ref bl, .ref b1, .ref b2, .int (nI (g.1 - j)), .int (nI g.2.1), .ref bq, .int kn])), (bt, .inl (cI, 2000, .inl tk)), (be, .inl (cI, 2000, .inl fe)), (bf, .inl (cB, 6000, .inl fi)), (bl, .inl (cB, 6000, .inl la)), (b1, .inl (cB, 3, .inl f1)), (b2, .inl (cB, 3, .inl l1)), (bq, .inl (cI, 2001, .inl sp))] := hD
    refine lv_aload_n hx hb dX2_back_24 rfl (lv_at hl 0 rfl) ?_
    refine lv_iconst (v := (nI 0)) hx hb dX2_back_25 (by decide +kernel) ?_
    refine va_put (D := D) (ci := 2) (v := .int (nI 0)) (ty := .boolean) (C := RX2) (T := TX2) (N := 10) hx hb hts in_X2 tyX2 tyX2_ok nmX2 hown hKK.1 hP hD hS 0 rfl rfl 9 (by decide) (hts _ q191) (fun _ h9 => h9) rfl (by decide +kernel) rfl rfl (Nat.le_of_ble_eq_true rfl) dX2_back_26 (fun H locs hP hD hS => ?_)
    have hP : va_P D vwCl [(ay, .inr (2, [.ref bt, .ref be, .ref bf, .ref bl, .ref b1, .ref b2, .int (nI (g.1 - j)), .int (nI g.2.1), .ref bq, .int (nI 0)])), (bt, .inl (cI, 2000, .inl tk)), (be, .inl (cI, 2000, .inl fe)), (bf, .inl (cB, 6000, .inl fi)), (bl, .inl (cB, 6000, .inl la)), (b1, .inl (cB, 3, .inl f1)), (b2, .inl (cB, 3, .inl l1)), (bq, .inl (cI, 2001, .inl sp))] H := hP
    have hD : va_D A [(ay, .inr (2, [.ref bt, .ref be, .ref bf, .ref bl, .ref b1, .ref b2, .int (nI (g.1 - j)), .int (nI g.2.1), .ref bq, .int (nI 0)])), (bt, .inl (cI, 2000, .inl tk)), (be, .inl (cI, 2000, .inl fe)), (bf, .inl (cB, 6000, .inl fi)), (bl, .inl (cB, 6000, .inl la)), (b1, .inl (cB, 3, .inl f1)), (b2, .inl (cB, 3, .inl l1)), (bq, .inl (cI, 2001, .inl sp))] := hD
    refine lv_aload_n hx hb dX2_back_29 rfl (lv_at hl 0 rfl) ?_
    refine va_get (D := D) (ci := 2) (v := .int (nI (g.1 - j))) (C := RX2) (T := TX2) (N := 10) hx hb hts in_X2 hown hKK.1 hP 0 rfl rfl 6 (by decide) (hts _ q188) (fun _ h9 => h9) rfl dX2_back_30 ?_
    exact W.iret hx hb hr (fun t ht hW => ⟨⟨_, _, rfl, ⟨(g.1 - j, g.2.1, g.2.2.1, g.2.2.2.1, g.2.2.2.2), Or.inl ⟨⟨c1, c2⟩, by rw [nI_clamp hj], hgb.symm⟩, bt, be, bf, bl, b1, b2, bq, tk, fe, fi, la, f1, l1, sp, nI 0, rfl, fun i hi => i1 i (Nat.lt_of_lt_of_le hi (Nat.sub_le _ _)), fun i hi => i2 i (Nat.lt_of_lt_of_le hi (Nat.sub_le _ _)), fun i hi => i3 i (Nat.lt_of_lt_of_le hi (Nat.sub_le _ _)), fun i hi => i4 i (Nat.lt_of_lt_of_le hi (Nat.sub_le _ _)), i5, i6, Or.inl rfl⟩, by rw [ht]; exact hP, hD⟩, hS.F ht⟩) hS.2.2 dX2_back_33
  · refine lv_iconst (v := (-1)) hx hb dX2_back_12 (by decide +kernel) ?_
    exact W.iret hx hb hr (fun t ht hW => ⟨⟨_, _, rfl, ⟨g, Or.inr ⟨fun h => c2 h.2, rfl, rfl⟩, ⟨bt, be, bf, bl, b1, b2, bq, tk, fe, fi, la, f1, l1, sp, kn, rfl, i1, i2, i3, i4, i5, i6, i7⟩⟩, by rw [ht]; exact hP, hD⟩, hS.F ht⟩) hS.2.2 dX2_back_13
set_option maxHeartbeats 4000000 in
set_option maxRecDepth 100000 in
/-- acceleration(a) -/
theorem sr_X2_acceleration (l : Launch) (D : va_G) (cI cB cM : ClassId) (ay sz : Nat) (g : sr_Sg) (hg : sr_OK g) (w : va_W) (hw : sr_MR cI cB ay g w) (hD0 : va_D (fun _ => True) w) (a : Int32) : sr_CtI l D cI cB cM yX2_acceleration wsX2_acceleration ({ frames := 0, cells := 0, slots := 0, locals := 0 } : Room) [.ref ay, .int a] w sz (fun r u => ∃ g', sr_pAcc g a r g' ∧ sr_MR cI cB ay g' u) 0 0 := by
  obtain ⟨bt, be, bf, bl, b1, b2, bq, tk, fe, fi, la, f1, l1, sp, kn, rfl, i1, i2, i3, i4, i5, i6, i7⟩ := hw
  refine Met.ofW (cc := cX2_acceleration) (maxL := 2) (ret := (some .boolean)) (by decide) rfl ?_
  intro p e s m args below meth c s₁ B hml hv
  obtain ⟨rfl, hKK, hsz, hP⟩ := hv
  have hx := B.exec
  have hb := B.bytes
  have hr := B.returns
  have hts := atoms_spec (ws := wsX2_acceleration) B.pre
  have hts : ∀ w ∈ lw_all, w.before _ s = true := fun w h => hts w (List.mem_cons_of_mem _ h)
  have hown : s.vm.findClass RX2 = some m.cls := findClass_of_methodNamed B.named
  have hlocks := B.notSynchronized
  subst hsz
  have hD := hD0.self (sz := s.heap.size)
  generalize hAe : va_A [(ay, .inr (2, [.ref bt, .ref be, .ref bf, .ref bl, .ref b1, .ref b2, .int (nI g.1), .int (nI g.2.1), .ref bq, .int kn])), (bt, .inl (cI, 2000, .inl tk)), (be, .inl (cI, 2000, .inl fe)), (bf, .inl (cB, 6000, .inl fi)), (bl, .inl (cB, 6000, .inl la)), (b1, .inl (cB, 3, .inl f1)), (b2, .inl (cB, 3, .inl l1)), (bq, .inl (cI, 2001, .inl sp))] s.heap.size = A at hD ⊢
  have hA : ∀ q : Nat, s.heap.size ≤ q → A q := fun q h => by rw [← hAe]; exact Or.inr h
  have hS : va_S A s.heap s.heap [] := va_S.rf
  have hP : va_P D vwCl [(ay, .inr (2, [.ref bt, .ref be, .ref bf, .ref bl, .ref b1, .ref b2, .int (nI g.1), .int (nI g.2.1), .ref bq, .int kn])), (bt, .inl (cI, 2000, .inl tk)), (be, .inl (cI, 2000, .inl fe)), (bf, .inl (cB, 6000, .inl fi)), (bl, .inl (cB, 6000, .inl la)), (b1, .inl (cB, 3, .inl f1)), (b2, .inl (cB, 3, .inl l1)), (bq, .inl (cI, 2001, .inl sp))] s.heap := hP
  have hl := lv_entry ([.ref ay, .int a]) (n := 2) (Nat.le_of_ble_eq_true rfl)
  rw [lg_entry_eq]
  generalize (lg_sl ([.ref ay, .int a]) ++ List.replicate (2 - (lg_sl ([.ref ay, .int a])).length) Slot.unset).toArray = ls at hl ⊢
  have hl : lv_has ls 2 [(0, .ref ay), (1, .int a)] := hl
  refine lv_iload_n hx hb dX2_acceleration_0 rfl (lv_at hl 1 rfl) ?_
  refine lv_iconst (v := (nI 1)) hx hb dX2_acceleration_1 (by decide +kernel) ?_
  refine lv_icmp_lt (tgt := 12) hx hb dX2_acceleration_2 (by decide) (fun c1 => ?_) (fun c1 => ?_)
  · refine lv_iconst (v := (nI 0)) hx hb dX2_acceleration_12 (by decide +kernel) ?_
    exact W.zret hx hb hr rfl (fun t ht hW => ⟨⟨_, _, rfl, ⟨g, Or.inr ⟨fun h => h.1 c1, rfl, rfl⟩, ⟨bt, be, bf, bl, b1, b2, bq, tk, fe, fi, la, f1, l1, sp, kn, rfl, i1, i2, i3, i4, i5, i6, i7⟩⟩, by rw [ht]; exact hP, hD⟩, hS.F ht⟩) hS.2.2 dX2_acceleration_13
  refine lv_iload_n hx hb dX2_acceleration_5 rfl (lv_at hl 1 rfl) ?_
  refine lv_sipush (v := (nI 10000)) hx hb dX2_acceleration_6 (by decide +kernel) ?_
  refine lv_icmp_le (tgt := 14) hx hb dX2_acceleration_9 (by decide) (fun c2 => ?_) (fun c2 => ?_)
  · have hok : sr_aok a := ⟨c1, c2⟩
    obtain ⟨j, hj⟩ : ∃ j : Nat, j = a.toNatClampNeg := ⟨_, rfl⟩
    have hnum := sr_aok_num hok
    rw [← hj] at hnum
    obtain ⟨ea, ha1, ha2⟩ := hnum
    have hgb : sr_sAcc g a = (g.1, j, g.2.2.1, g.2.2.2.1, g.2.2.2.2) := by unfold sr_sAcc; rw [hj]
    refine lv_aload_n hx hb dX2_acceleration_14 rfl (lv_at hl 0 rfl) ?_
    refine lv_iload_n hx hb dX2_acceleration_15 rfl (lv_at hl 1 rfl) ?_
    refine sr_ti (y := (nI j)) (ea) ?_
    refine va_put (D := D) (ci := 2) (v := .int (nI j)) (ty := .int) (C := RX2) (T := TX2) (N := 10) hx hb hts in_X2 tyX2 tyX2_ok nmX2 hown hKK.1 hP hD hS 0 rfl rfl 7 (by decide) (hts _ q189) (fun _ h9 => h9) rfl (by decide +kernel) rfl rfl (Nat.le_of_ble_eq_true rfl) dX2_acceleration_16 (fun H locs hP hD hS => ?_)
    have hP : va_P D vwCl [(ay, .inr (2, [.ref bt, .ref be, .ref bf, .ref bl, .ref b1, .ref b2, .int (nI g.1), .int (nI j), .ref bq, .int kn])), (bt, .inl (cI, 2000, .inl tk)), (be, .inl (cI, 2000, .inl fe)), (bf, .inl (cB, 6000, .inl fi)), (bl, .inl (cB, 6000, .inl la)), (b1, .inl (cB, 3, .inl f1)), (b2, .inl (cB, 3, .inl l1)), (bq, .inl (cI, 2001, .inl sp))] H := hP
    have hD : va_D A [(ay, .inr (2, [.ref bt, .ref be, .ref bf, .ref bl, .ref b1, .ref b2, .int (nI g.1), .int (nI j), .ref bq, .int kn])), (bt, .inl (cI, 2000, .inl tk)), (be, .inl (cI, 2000, .inl fe)), (bf, .inl (cB, 6000, .inl fi)), (bl, .inl (cB, 6000, .inl la)), (b1, .inl (cB, 3, .inl f1)), (b2, .inl (cB, 3, .inl l1)), (bq, .inl (cI, 2001, .inl sp))] := hD
    refine lv_aload_n hx hb dX2_acceleration_19 rfl (lv_at hl 0 rfl) ?_
    refine lv_iconst (v := (nI 0)) hx hb dX2_acceleration_20 (by decide +kernel) ?_
    refine va_put (D := D) (ci := 2) (v := .int (nI 0)) (ty := .boolean) (C := RX2) (T := TX2) (N := 10) hx hb hts in_X2 tyX2 tyX2_ok nmX2 hown hKK.1 hP hD hS 0 rfl rfl 9 (by decide) (hts _ q191) (fun _ h9 => h9) rfl (by decide +kernel) rfl rfl (Nat.le_of_ble_eq_true rfl) dX2_acceleration_21 (fun H locs hP hD hS => ?_)
    have hP : va_P D vwCl [(ay, .inr (2, [.ref bt, .ref be, .ref bf, .ref bl, .ref b1, .ref b2, .int (nI g.1), .int (nI j), .ref bq, .int (nI 0)])), (bt, .inl (cI, 2000, .inl tk)), (be, .inl (cI, 2000, .inl fe)), (bf, .inl (cB, 6000, .inl fi)), (bl, .inl (cB, 6000, .inl la)), (b1, .inl (cB, 3, .inl f1)), (b2, .inl (cB, 3, .inl l1)), (bq, .inl (cI, 2001, .inl sp))] H := hP
    have hD : va_D A [(ay, .inr (2, [.ref bt, .ref be, .ref bf, .ref bl, .ref b1, .ref b2, .int (nI g.1), .int (nI j), .ref bq, .int (nI 0)])), (bt, .inl (cI, 2000, .inl tk)), (be, .inl (cI, 2000, .inl fe)), (bf, .inl (cB, 6000, .inl fi)), (bl, .inl (cB, 6000, .inl la)), (b1, .inl (cB, 3, .inl f1)), (b2, .inl (cB, 3, .inl l1)), (bq, .inl (cI, 2001, .inl sp))] := hD
    refine lv_iconst (v := (nI 1)) hx hb dX2_acceleration_24 (by decide +kernel) ?_
    exact W.zret hx hb hr rfl (fun t ht hW => ⟨⟨_, _, rfl, ⟨(g.1, j, g.2.2.1, g.2.2.2.1, g.2.2.2.2), Or.inl ⟨hok, rfl, hgb.symm⟩, bt, be, bf, bl, b1, b2, bq, tk, fe, fi, la, f1, l1, sp, nI 0, rfl, i1, i2, i3, i4, i5, i6, Or.inl rfl⟩, by rw [ht]; exact hP, hD⟩, hS.F ht⟩) hS.2.2 dX2_acceleration_25
  · refine lv_iconst (v := (nI 0)) hx hb dX2_acceleration_12 (by decide +kernel) ?_
    exact W.zret hx hb hr rfl (fun t ht hW => ⟨⟨_, _, rfl, ⟨g, Or.inr ⟨fun h => c2 h.2, rfl, rfl⟩, ⟨bt, be, bf, bl, b1, b2, bq, tk, fe, fi, la, f1, l1, sp, kn, rfl, i1, i2, i3, i4, i5, i6, i7⟩⟩, by rw [ht]; exact hP, hD⟩, hS.F ht⟩) hS.2.2 dX2_acceleration_13
set_option maxHeartbeats 4000000 in
set_option maxRecDepth 100000 in
/-- lowered(c, v) -/
theorem sr_X2_lowered (l : Launch) (D : va_G) (cI cB cM : ClassId) (ay bt be bf bl b1 b2 bq sz : Nat) (v0 v1 v2 v3 v4 v5 v6 v7 v9 : Value) (tk fe fi la f1 l1 sp : Nat → Int32) (hD0 : va_D (fun _ => True) [(ay, .inr (2, [v0, v1, v2, v3, v4, v5, v6, v7, .ref bq, v9])), (bt, .inl (cI, 2000, .inl tk)), (be, .inl (cI, 2000, .inl fe)), (bf, .inl (cB, 6000, .inl fi)), (bl, .inl (cB, 6000, .inl la)), (b1, .inl (cB, 3, .inl f1)), (b2, .inl (cB, 3, .inl l1)), (bq, .inl (cI, 2001, .inl sp))]) (i v b : Nat) (hi9 : i < 2001) (hv9 : v < 1000000) (hb9 : b ≤ 99999) (hsp : sp i = nI b) : sr_CtI l D cI cB cM yX2_lowered wsX2_lowered ({ frames := 0, cells := 0, slots := 0, locals := 0 } : Room) [.ref ay, .int (nI i), .int (nI v)] [(ay, .inr (2, [v0, v1, v2, v3, v4, v5, v6, v7, .ref bq, v9])), (bt, .inl (cI, 2000, .inl tk)), (be, .inl (cI, 2000, .inl fe)), (bf, .inl (cB, 6000, .inl fi)), (bl, .inl (cB, 6000, .inl la)), (b1, .inl (cB, 3, .inl f1)), (b2, .inl (cB, 3, .inl l1)), (bq, .inl (cI, 2001, .inl sp))] sz (fun r u => (b ≤ v ∧ r = 0 ∧ u = [(ay, .inr (2, [v0, v1, v2, v3, v4, v5, v6, v7, .ref bq, v9])), (bt, .inl (cI, 2000, .inl tk)), (be, .inl (cI, 2000, .inl fe)), (bf, .inl (cB, 6000, .inl fi)), (bl, .inl (cB, 6000, .inl la)), (b1, .inl (cB, 3, .inl f1)), (b2, .inl (cB, 3, .inl l1)), (bq, .inl (cI, 2001, .inl sp))]) ∨ (v < b ∧ r = 1 ∧ u = [(ay, .inr (2, [v0, v1, v2, v3, v4, v5, v6, v7, .ref bq, v9])), (bt, .inl (cI, 2000, .inl tk)), (be, .inl (cI, 2000, .inl fe)), (bf, .inl (cB, 6000, .inl fi)), (bl, .inl (cB, 6000, .inl la)), (b1, .inl (cB, 3, .inl f1)), (b2, .inl (cB, 3, .inl l1)), (bq, .inl (cI, 2001, .inl (upd sp i (nI v))))])) 0 0 := by
  refine Met.ofW (cc := cX2_lowered) (maxL := 3) (ret := (some .boolean)) (by decide) rfl ?_
  intro p e s m args below meth c s₁ B hml hv
  obtain ⟨rfl, hKK, hsz, hP⟩ := hv
  have hx := B.exec
  have hb := B.bytes
  have hr := B.returns
  have hts := atoms_spec (ws := wsX2_lowered) B.pre
  have hts : ∀ w ∈ lw_all, w.before _ s = true := fun w h => hts w (List.mem_cons_of_mem _ h)
  have hown : s.vm.findClass RX2 = some m.cls := findClass_of_methodNamed B.named
  have hlocks := B.notSynchronized
  subst hsz
  have hD := hD0.self (sz := s.heap.size)
  generalize hAe : va_A [(ay, .inr (2, [v0, v1, v2, v3, v4, v5, v6, v7, .ref bq, v9])), (bt, .inl (cI, 2000, .inl tk)), (be, .inl (cI, 2000, .inl fe)), (bf, .inl (cB, 6000, .inl fi)), (bl, .inl (cB, 6000, .inl la)), (b1, .inl (cB, 3, .inl f1)), (b2, .inl (cB, 3, .inl l1)), (bq, .inl (cI, 2001, .inl sp))] s.heap.size = A at hD ⊢
  have hA : ∀ q : Nat, s.heap.size ≤ q → A q := fun q h => by rw [← hAe]; exact Or.inr h
  have hS : va_S A s.heap s.heap [] := va_S.rf
  have hP : va_P D vwCl [(ay, .inr (2, [v0, v1, v2, v3, v4, v5, v6, v7, .ref bq, v9])), (bt, .inl (cI, 2000, .inl tk)), (be, .inl (cI, 2000, .inl fe)), (bf, .inl (cB, 6000, .inl fi)), (bl, .inl (cB, 6000, .inl la)), (b1, .inl (cB, 3, .inl f1)), (b2, .inl (cB, 3, .inl l1)), (bq, .inl (cI, 2001, .inl sp))] s.heap := hP
  have hl := lv_entry ([.ref ay, .int (nI i), .int (nI v)]) (n := 3) (Nat.le_of_ble_eq_true rfl)
  rw [lg_entry_eq]
  generalize (lg_sl ([.ref ay, .int (nI i), .int (nI v)]) ++ List.replicate (3 - (lg_sl ([.ref ay, .int (nI i), .int (nI v)])).length) Slot.unset).toArray = ls at hl ⊢
  have hl : lv_has ls 3 [(0, .ref ay), (1, .int (nI i)), (2, .int (nI v))] := hl
  have hin1 : vp_in (nI i) 2001 := vp_in_nI hi9 (by omega)
  refine lv_aload_n hx hb dX2_lowered_0 rfl (lv_at hl 0 rfl) ?_
  refine va_get (D := D) (ci := 2) (v := .ref bq) (C := RX2) (T := TX2) (N := 10) hx hb hts in_X2 hown hKK.1 hP 0 rfl rfl 8 (by decide) (hts _ q190) (fun _ h9 => h9) rfl dX2_lowered_1 ?_
  refine lv_iload_n hx hb dX2_lowered_4 rfl (lv_at hl 1 rfl) ?_
  refine va_iald hx hb hKK.1 hP 7 0 rfl rfl (hin1) dX2_lowered_5 ?_
  refine sr_ti (y := (nI b)) (by rw [nI_clamp (by omega)]; exact hsp) ?_
  refine lv_iload_n hx hb dX2_lowered_6 rfl (lv_at hl 2 rfl) ?_
  refine lv_icmp_gt (tgt := 12) hx hb dX2_lowered_7 (by decide) (fun c1 => ?_) (fun c1 => ?_)
  · have c1 := (nI_ltI (by omega) (by omega)).mp c1
    refine lv_aload_n hx hb dX2_lowered_12 rfl (lv_at hl 0 rfl) ?_
    refine va_get (D := D) (ci := 2) (v := .ref bq) (C := RX2) (T := TX2) (N := 10) hx hb hts in_X2 hown hKK.1 hP 0 rfl rfl 8 (by decide) (hts _ q190) (fun _ h9 => h9) rfl dX2_lowered_13 ?_
    refine lv_iload_n hx hb dX2_lowered_16 rfl (lv_at hl 1 rfl) ?_
    refine lv_iload_n hx hb dX2_lowered_17 rfl (lv_at hl 2 rfl) ?_
    refine va_iast hx hb hKK.1 hP hD hS 7 0 rfl rfl (hin1) dX2_lowered_18 (fun H locs hP hD hS => ?_)
    rw [nI_clamp (show i < 2 ^ 31 by omega)] at hP hD
    have hP : va_P D vwCl [(ay, .inr (2, [v0, v1, v2, v3, v4, v5, v6, v7, .ref bq, v9])), (bt, .inl (cI, 2000, .inl tk)), (be, .inl (cI, 2000, .inl fe)), (bf, .inl (cB, 6000, .inl fi)), (bl, .inl (cB, 6000, .inl la)), (b1, .inl (cB, 3, .inl f1)), (b2, .inl (cB, 3, .inl l1)), (bq, .inl (cI, 2001, .inl (upd sp i (nI v))))] H := hP
    have hD : va_D A [(ay, .inr (2, [v0, v1, v2, v3, v4, v5, v6, v7, .ref bq, v9])), (bt, .inl (cI, 2000, .inl tk)), (be, .inl (cI, 2000, .inl fe)), (bf, .inl (cB, 6000, .inl fi)), (bl, .inl (cB, 6000, .inl la)), (b1, .inl (cB, 3, .inl f1)), (b2, .inl (cB, 3, .inl l1)), (bq, .inl (cI, 2001, .inl (upd sp i (nI v))))] := hD
    refine lv_iconst (v := (nI 1)) hx hb dX2_lowered_19 (by decide +kernel) ?_
    exact W.zret hx hb hr rfl (fun t ht hW => ⟨⟨_, _, rfl, Or.inr ⟨c1, rfl, rfl⟩, by rw [ht]; exact hP, hD⟩, hS.F ht⟩) hS.2.2 dX2_lowered_20
  · have c1 : b ≤ v := Nat.le_of_not_lt (fun h => c1 (nI_lt h (by omega)))
    refine lv_iconst (v := (nI 0)) hx hb dX2_lowered_10 (by decide +kernel) ?_
    exact W.zret hx hb hr rfl (fun t ht hW => ⟨⟨_, _, rfl, Or.inl ⟨c1, rfl, rfl⟩, by rw [ht]; exact hP, hD⟩, hS.F ht⟩) hS.2.2 dX2_lowered_11
set_option maxHeartbeats 4000000 in
set_option maxRecDepth 100000 in
/-- move(n, feed) -/
theorem sr_X2_move (l : Launch) (D : va_G) (cI cB cM : ClassId) (ay sz : Nat) (g : sr_Sg) (hg : sr_OK g) (w : va_W) (hw : sr_MR cI cB ay g w) (hD0 : va_D (fun _ => True) w) (n f : Int32) : sr_CtI l D cI cB cM yX2_move wsX2_move ({ frames := 0, cells := 0, slots := 0, locals := 0 } : Room) [.ref ay, .int n, .int f] w sz (fun r u => ∃ g', sr_pMove g n f r g' ∧ sr_MR cI cB ay g' u) 0 0 := by
  obtain ⟨bt, be, bf, bl, b1, b2, bq, tk, fe, fi, la, f1, l1, sp, kn, rfl, i1, i2, i3, i4, i5, i6, i7⟩ := hw
  refine Met.ofW (cc := cX2_move) (maxL := 4) (ret := (some .int)) (by decide) rfl ?_
  intro p e s m args below meth c s₁ B hml hv
  obtain ⟨rfl, hKK, hsz, hP⟩ := hv
  have hx := B.exec
  have hb := B.bytes
  have hr := B.returns
  have hts := atoms_spec (ws := wsX2_move) B.pre
  have hts : ∀ w ∈ lw_all, w.before _ s = true := fun w h => hts w (List.mem_cons_of_mem _ h)
  have hown : s.vm.findClass RX2 = some m.cls := findClass_of_methodNamed B.named
  have hlocks := B.notSynchronized
  subst hsz
  have hD := hD0.self (sz := s.heap.size)
  generalize hAe : va_A [(ay, .inr (2, [.ref bt, .ref be, .ref bf, .ref bl, .ref b1, .ref b2, .int (nI g.1), .int (nI g.2.1), .ref bq, .int kn])), (bt, .inl (cI, 2000, .inl tk)), (be, .inl (cI, 2000, .inl fe)), (bf, .inl (cB, 6000, .inl fi)), (bl, .inl (cB, 6000, .inl la)), (b1, .inl (cB, 3, .inl f1)), (b2, .inl (cB, 3, .inl l1)), (bq, .inl (cI, 2001, .inl sp))] s.heap.size = A at hD ⊢
  have hA : ∀ q : Nat, s.heap.size ≤ q → A q := fun q h => by rw [← hAe]; exact Or.inr h
  have hS : va_S A s.heap s.heap [] := va_S.rf
  have hP : va_P D vwCl [(ay, .inr (2, [.ref bt, .ref be, .ref bf, .ref bl, .ref b1, .ref b2, .int (nI g.1), .int (nI g.2.1), .ref bq, .int kn])), (bt, .inl (cI, 2000, .inl tk)), (be, .inl (cI, 2000, .inl fe)), (bf, .inl (cB, 6000, .inl fi)), (bl, .inl (cB, 6000, .inl la)), (b1, .inl (cB, 3, .inl f1)), (b2, .inl (cB, 3, .inl l1)), (bq, .inl (cI, 2001, .inl sp))] s.heap := hP
  have hl := lv_entry ([.ref ay, .int n, .int f]) (n := 4) (Nat.le_of_ble_eq_true rfl)
  rw [lg_entry_eq]
  generalize (lg_sl ([.ref ay, .int n, .int f]) ++ List.replicate (4 - (lg_sl ([.ref ay, .int n, .int f])).length) Slot.unset).toArray = ls at hl ⊢
  have hl : lv_has ls 4 [(0, .ref ay), (1, .int n), (2, .int f)] := hl
  have hg1 := hg.1
  refine lv_iload_n hx hb dX2_move_0 rfl (lv_at hl 1 rfl) ?_
  refine lv_iconst (v := (nI 1)) hx hb dX2_move_1 (by decide +kernel) ?_
  refine lv_icmp_lt (tgt := 32) hx hb dX2_move_2 (by decide) (fun c1 => ?_) (fun c1 => ?_)
  · refine lv_iconst (v := (-1)) hx hb dX2_move_32 (by decide +kernel) ?_
    exact W.iret hx hb hr (fun t ht hW => ⟨⟨_, _, rfl, ⟨g, Or.inr ⟨fun h => h.1 c1, rfl, rfl⟩, ⟨bt, be, bf, bl, b1, b2, bq, tk, fe, fi, la, f1, l1, sp, kn, rfl, i1, i2, i3, i4, i5, i6, i7⟩⟩, by rw [ht]; exact hP, hD⟩, hS.F ht⟩) hS.2.2 dX2_move_33
  refine lv_iload_n hx hb dX2_move_5 rfl (lv_at hl 1 rfl) ?_
  refine lv_ldc (v := nI 100000) hx hb hown (hts _ q232) dX2_move_6 ?_
  refine lv_icmp_gt (tgt := 32) hx hb dX2_move_8 (by decide) (fun c2 => ?_) (fun c2 => ?_)
  · refine lv_iconst (v := (-1)) hx hb dX2_move_32 (by decide +kernel) ?_
    exact W.iret hx hb hr (fun t ht hW => ⟨⟨_, _, rfl, ⟨g, Or.inr ⟨fun h => h.2.1 c2, rfl, rfl⟩, ⟨bt, be, bf, bl, b1, b2, bq, tk, fe, fi, la, f1, l1, sp, kn, rfl, i1, i2, i3, i4, i5, i6, i7⟩⟩, by rw [ht]; exact hP, hD⟩, hS.F ht⟩) hS.2.2 dX2_move_33
  refine lv_iload_n hx hb dX2_move_11 rfl (lv_at hl 2 rfl) ?_
  refine lv_iconst (v := (nI 1)) hx hb dX2_move_12 (by decide +kernel) ?_
  refine lv_icmp_lt (tgt := 32) hx hb dX2_move_13 (by decide) (fun c3 => ?_) (fun c3 => ?_)
  · refine lv_iconst (v := (-1)) hx hb dX2_move_32 (by decide +kernel) ?_
    exact W.iret hx hb hr (fun t ht hW => ⟨⟨_, _, rfl, ⟨g, Or.inr ⟨fun h => h.2.2.1 c3, rfl, rfl⟩, ⟨bt, be, bf, bl, b1, b2, bq, tk, fe, fi, la, f1, l1, sp, kn, rfl, i1, i2, i3, i4, i5, i6, i7⟩⟩, by rw [ht]; exact hP, hD⟩, hS.F ht⟩) hS.2.2 dX2_move_33
  refine lv_iload_n hx hb dX2_move_16 rfl (lv_at hl 2 rfl) ?_
  refine lv_ldc (v := nI 99999) hx hb hown (hts _ q233) dX2_move_17 ?_
  refine lv_icmp_gt (tgt := 32) hx hb dX2_move_19 (by decide) (fun c4 => ?_) (fun c4 => ?_)
  · refine lv_iconst (v := (-1)) hx hb dX2_move_32 (by decide +kernel) ?_
    exact W.iret hx hb hr (fun t ht hW => ⟨⟨_, _, rfl, ⟨g, Or.inr ⟨fun h => h.2.2.2.1 c4, rfl, rfl⟩, ⟨bt, be, bf, bl, b1, b2, bq, tk, fe, fi, la, f1, l1, sp, kn, rfl, i1, i2, i3, i4, i5, i6, i7⟩⟩, by rw [ht]; exact hP, hD⟩, hS.F ht⟩) hS.2.2 dX2_move_33
  refine lv_aload_n hx hb dX2_move_22 rfl (lv_at hl 0 rfl) ?_
  refine va_get (D := D) (ci := 2) (v := .int (nI g.1)) (C := RX2) (T := TX2) (N := 10) hx hb hts in_X2 hown hKK.1 hP 0 rfl rfl 6 (by decide) (hts _ q188) (fun _ h9 => h9) rfl dX2_move_23 ?_
  refine lv_sipush (v := (nI 2000)) hx hb dX2_move_26 (by decide +kernel) ?_
  refine lv_icmp_ne (tgt := 34) hx hb dX2_move_29 (by decide) (fun c5 => ?_) (fun c5 => ?_)
  · have hmok : sr_mok g n f := ⟨c1, c2, c3, c4, fun q => c5 (by rw [q])⟩
    have hg2 : g.1 < 2000 := by have := hmok.2.2.2.2; omega
    have hnum := sr_mok_num hmok
    obtain ⟨j1, hj1⟩ : ∃ j : Nat, j = n.toNatClampNeg := ⟨_, rfl⟩
    obtain ⟨j2, hj2⟩ : ∃ j : Nat, j = f.toNatClampNeg := ⟨_, rfl⟩
    rw [← hj1, ← hj2] at hnum
    obtain ⟨en, hn1, hn2, ef, hf1, hf2⟩ := hnum
    have hgb : sr_sMove g n f = (g.1 + 1, g.2.1, g.2.2.1, g.2.2.2.1, va_up g.2.2.2.2 g.1 (j1, j2, g.2.2.1, g.2.2.2.1)) := by unfold sr_sMove; rw [← hj1, ← hj2]
    have hin0 : vp_in (nI g.1) 2000 := vp_in_nI hg2 (by omega)
    have hg31 : g.1 < 2 ^ 31 := by omega
    refine lv_aload_n hx hb dX2_move_34 rfl (lv_at hl 0 rfl) ?_
    refine va_get (D := D) (ci := 2) (v := .ref bt) (C := RX2) (T := TX2) (N := 10) hx hb hts in_X2 hown hKK.1 hP 0 rfl rfl 0 (by decide) (hts _ q182) (fun _ h9 => h9) rfl dX2_move_35 ?_
    refine lv_aload_n hx hb dX2_move_38 rfl (lv_at hl 0 rfl) ?_
    refine va_get (D := D) (ci := 2) (v := .int (nI g.1)) (C := RX2) (T := TX2) (N := 10) hx hb hts in_X2 hown hKK.1 hP 0 rfl rfl 6 (by decide) (hts _ q188) (fun _ h9 => h9) rfl dX2_move_39 ?_
    refine lv_iload_n hx hb dX2_move_42 rfl (lv_at hl 1 rfl) ?_
    refine sr_ti (y := (nI j1)) (en) ?_
    refine va_iast hx hb hKK.1 hP hD hS 1 0 rfl rfl (hin0) dX2_move_43 (fun H locs hP hD hS => ?_)
    rw [nI_clamp hg31] at hP hD
    have hP : va_P D vwCl [(ay, .inr (2, [.ref bt, .ref be, .ref bf, .ref bl, .ref b1, .ref b2, .int (nI g.1), .int (nI g.2.1), .ref bq, .int kn])), (bt, .inl (cI, 2000, .inl (upd tk g.1 (nI j1)))), (be, .inl (cI, 2000, .inl fe)), (bf, .inl (cB, 6000, .inl fi)), (bl, .inl (cB, 6000, .inl la)), (b1, .inl (cB, 3, .inl f1)), (b2, .inl (cB, 3, .inl l1)), (bq, .inl (cI, 2001, .inl sp))] H := hP
    have hD : va_D A [(ay, .inr (2, [.ref bt, .ref be, .ref bf, .ref bl, .ref b1, .ref b2, .int (nI g.1), .int (nI g.2.1), .ref bq, .int kn])), (bt, .inl (cI, 2000, .inl (upd tk g.1 (nI j1)))), (be, .inl (cI, 2000, .inl fe)), (bf, .inl (cB, 6000, .inl fi)), (bl, .inl (cB, 6000, .inl la)), (b1, .inl (cB, 3, .inl f1)), (b2, .inl (cB, 3, .inl l1)), (bq, .inl (cI, 2001, .inl sp))] := hD
    refine lv_aload_n hx hb dX2_move_44 rfl (lv_at hl 0 rfl) ?_
    refine va_get (D := D) (ci := 2) (v := .ref be) (C := RX2) (T := TX2) (N := 10) hx hb hts in_X2 hown hKK.1 hP 0 rfl rfl 1 (by decide) (hts _ q183) (fun _ h9 => h9) rfl dX2_move_45 ?_
    refine lv_aload_n hx hb dX2_move_48 rfl (lv_at hl 0 rfl) ?_
    refine va_get (D := D) (ci := 2) (v := .int (nI g.1)) (C := RX2) (T := TX2) (N := 10) hx hb hts in_X2 hown hKK.1 hP 0 rfl rfl 6 (by decide) (hts _ q188) (fun _ h9 => h9) rfl dX2_move_49 ?_
    refine lv_iload_n hx hb dX2_move_52 rfl (lv_at hl 2 rfl) ?_
    refine sr_ti (y := (nI j2)) (ef) ?_
    refine va_iast hx hb hKK.1 hP hD hS 2 0 rfl rfl (hin0) dX2_move_53 (fun H locs hP hD hS => ?_)
    rw [nI_clamp hg31] at hP hD
    have hP : va_P D vwCl [(ay, .inr (2, [.ref bt, .ref be, .ref bf, .ref bl, .ref b1, .ref b2, .int (nI g.1), .int (nI g.2.1), .ref bq, .int kn])), (bt, .inl (cI, 2000, .inl (upd tk g.1 (nI j1)))), (be, .inl (cI, 2000, .inl (upd fe g.1 (nI j2)))), (bf, .inl (cB, 6000, .inl fi)), (bl, .inl (cB, 6000, .inl la)), (b1, .inl (cB, 3, .inl f1)), (b2, .inl (cB, 3, .inl l1)), (bq, .inl (cI, 2001, .inl sp))] H := hP
    have hD : va_D A [(ay, .inr (2, [.ref bt, .ref be, .ref bf, .ref bl, .ref b1, .ref b2, .int (nI g.1), .int (nI g.2.1), .ref bq, .int kn])), (bt, .inl (cI, 2000, .inl (upd tk g.1 (nI j1)))), (be, .inl (cI, 2000, .inl (upd fe g.1 (nI j2)))), (bf, .inl (cB, 6000, .inl fi)), (bl, .inl (cB, 6000, .inl la)), (b1, .inl (cB, 3, .inl f1)), (b2, .inl (cB, 3, .inl l1)), (bq, .inl (cI, 2001, .inl sp))] := hD
    refine lv_iconst (v := (nI 0)) hx hb dX2_move_54 (by decide +kernel) ?_
    refine lv_istore_n (lv' := [(3, .int (nI 0)), (0, .ref ay), (1, .int n), (2, .int f)]) hx hb dX2_move_55 rfl hl (by decide) rfl (fun ls hl => ?_)
    have loop : ∀ (n9 k : Nat) (fi la : Nat → Int32) (H : Heap) (locs : List Loc) (ls : Array Slot), k ≤ 3 → 4 ≤ k + n9 → (∀ i, i < g.1 → ∀ a, a < 3 → fi (3 * i + a) = sr_c (g.2.2.2.2 i).2.2.1 a) → (∀ i, i < g.1 → ∀ a, a < 3 → la (3 * i + a) = sr_c (g.2.2.2.2 i).2.2.2 a) → (∀ a, a < k → fi (3 * g.1 + a) = sr_c g.2.2.1 a) → (∀ a, a < k → la (3 * g.1 + a) = sr_c g.2.2.2.1 a) → va_P D vwCl [(ay, .inr (2, [.ref bt, .ref be, .ref bf, .ref bl, .ref b1, .ref b2, .int (nI g.1), .int (nI g.2.1), .ref bq, .int kn])), (bt, .inl (cI, 2000, .inl (upd tk g.1 (nI j1)))), (be, .inl (cI, 2000, .inl (upd fe g.1 (nI j2)))), (bf, .inl (cB, 6000, .inl fi)), (bl, .inl (cB, 6000, .inl la)), (b1, .inl (cB, 3, .inl f1)), (b2, .inl (cB, 3, .inl l1)), (bq, .inl (cI, 2001, .inl sp))] H → va_D A [(ay, .inr (2, [.ref bt, .ref be, .ref bf, .ref bl, .ref b1, .ref b2, .int (nI g.1), .int (nI g.2.1), .ref bq, .int kn])), (bt, .inl (cI, 2000, .inl (upd tk g.1 (nI j1)))), (be, .inl (cI, 2000, .inl (upd fe g.1 (nI j2)))), (bf, .inl (cB, 6000, .inl fi)), (bl, .inl (cB, 6000, .inl la)), (b1, .inl (cB, 3, .inl f1)), (b2, .inl (cB, 3, .inl l1)), (bq, .inl (cI, 2001, .inl sp))] → va_S A s.heap H locs → lv_has ls 4 [(3, .int (nI k)), (0, .ref ay)] → W p l e (headSpec wsX2_move ({ frames := 0, cells := 0, slots := 0, locals := 0 } : Room)).room s m ([.ref ay, .int n, .int f] : List Value).toArray below meth c H locs 0 0 (MQ below (va_Qi (fun r u => ∃ g', sr_pMove g n f r g' ∧ sr_MR cI cB ay g' u) (sr_Bw D A) A) ([.ref ay, .int n, .int f] : List Value).toArray s 0 0 A) (F0 m 56 ls []) := by
      intro n9
      induction n9 with
      | zero => intro k fi la H locs ls h1 h2; exact absurd h2 (by omega)
      | succ n9 ih =>
        intro k fi la H locs ls h1 h2 h3 h4 h5 h6 hP hD hS hl
        refine lv_iload_n hx hb dX2_move_56 rfl (lv_at hl 0 rfl) ?_
        refine lv_iconst (v := (nI 3)) hx hb dX2_move_57 (by decide +kernel) ?_
        refine lv_icmp_ge (tgt := 105) hx hb dX2_move_58 (by decide) (fun c6 => ?_) (fun c6 => ?_)
        · have hk3 : k = 3 := by have := (nI_leI (by decide) (by omega)).mp c6; omega
          subst hk3
          refine lv_aload_n hx hb dX2_move_105 rfl (lv_at hl 1 rfl) ?_
          refine lv_dup hx hb dX2_move_106 rfl ?_
          refine va_get (D := D) (ci := 2) (v := .int (nI g.1)) (C := RX2) (T := TX2) (N := 10) hx hb hts in_X2 hown hKK.1 hP 0 rfl rfl 6 (by decide) (hts _ q188) (fun _ h9 => h9) rfl dX2_move_107 ?_
          refine lv_iconst (v := (nI 1)) hx hb dX2_move_110 (by decide +kernel) ?_
          refine lv_iadd hx hb dX2_move_111 ?_
          refine sr_ti (y := (nI (g.1 + 1))) (nI_add _ _) ?_
          refine va_put (D := D) (ci := 2) (v := .int (nI (g.1 + 1))) (ty := .int) (C := RX2) (T := TX2) (N := 10) hx hb hts in_X2 tyX2 tyX2_ok nmX2 hown hKK.1 hP hD hS 0 rfl rfl 6 (by decide) (hts _ q188) (fun _ h9 => h9) rfl (by decide +kernel) rfl rfl (Nat.le_of_ble_eq_true rfl) dX2_move_112 (fun H locs hP hD hS => ?_)
          have hP : va_P D vwCl [(ay, .inr (2, [.ref bt, .ref be, .ref bf, .ref bl, .ref b1, .ref b2, .int (nI (g.1 + 1)), .int (nI g.2.1), .ref bq, .int kn])), (bt, .inl (cI, 2000, .inl (upd tk g.1 (nI j1)))), (be, .inl (cI, 2000, .inl (upd fe g.1 (nI j2)))), (bf, .inl (cB, 6000, .inl fi)), (bl, .inl (cB, 6000, .inl la)), (b1, .inl (cB, 3, .inl f1)), (b2, .inl (cB, 3, .inl l1)), (bq, .inl (cI, 2001, .inl sp))] H := hP
          have hD : va_D A [(ay, .inr (2, [.ref bt, .ref be, .ref bf, .ref bl, .ref b1, .ref b2, .int (nI (g.1 + 1)), .int (nI g.2.1), .ref bq, .int kn])), (bt, .inl (cI, 2000, .inl (upd tk g.1 (nI j1)))), (be, .inl (cI, 2000, .inl (upd fe g.1 (nI j2)))), (bf, .inl (cB, 6000, .inl fi)), (bl, .inl (cB, 6000, .inl la)), (b1, .inl (cB, 3, .inl f1)), (b2, .inl (cB, 3, .inl l1)), (bq, .inl (cI, 2001, .inl sp))] := hD
          refine lv_aload_n hx hb dX2_move_115 rfl (lv_at hl 1 rfl) ?_
          refine lv_iconst (v := (nI 0)) hx hb dX2_move_116 (by decide +kernel) ?_
          refine va_put (D := D) (ci := 2) (v := .int (nI 0)) (ty := .boolean) (C := RX2) (T := TX2) (N := 10) hx hb hts in_X2 tyX2 tyX2_ok nmX2 hown hKK.1 hP hD hS 0 rfl rfl 9 (by decide) (hts _ q191) (fun _ h9 => h9) rfl (by decide +kernel) rfl rfl (Nat.le_of_ble_eq_true rfl) dX2_move_117 (fun H locs hP hD hS => ?_)
          have hP : va_P D vwCl [(ay, .inr (2, [.ref bt, .ref be, .ref bf, .ref bl, .ref b1, .ref b2, .int (nI (g.1 + 1)), .int (nI g.2.1), .ref bq, .int (nI 0)])), (bt, .inl (cI, 2000, .inl (upd tk g.1 (nI j1)))), (be, .inl (cI, 2000, .inl (upd fe g.1 (nI j2)))), (bf, .inl (cB, 6000, .inl fi)), (bl, .inl (cB, 6000, .inl la)), (b1, .inl (cB, 3, .inl f1)), (b2, .inl (cB, 3, .inl l1)), (bq, .inl (cI, 2001, .inl sp))] H := hP
          have hD : va_D A [(ay, .inr (2, [.ref bt, .ref be, .ref bf, .ref bl, .ref b1, .ref b2, .int (nI (g.1 + 1)), .int (nI g.2.1), .ref bq, .int (nI 0)])), (bt, .inl (cI, 2000, .inl (upd tk g.1 (nI j1)))), (be, .inl (cI, 2000, .inl (upd fe g.1 (nI j2)))), (bf, .inl (cB, 6000, .inl fi)), (bl, .inl (cB, 6000, .inl la)), (b1, .inl (cB, 3, .inl f1)), (b2, .inl (cB, 3, .inl l1)), (bq, .inl (cI, 2001, .inl sp))] := hD
          refine lv_aload_n hx hb dX2_move_120 rfl (lv_at hl 1 rfl) ?_
          refine va_get (D := D) (ci := 2) (v := .int (nI (g.1 + 1))) (C := RX2) (T := TX2) (N := 10) hx hb hts in_X2 hown hKK.1 hP 0 rfl rfl 6 (by decide) (hts _ q188) (fun _ h9 => h9) rfl dX2_move_121 ?_
          have m1 : ∀ i, i < g.1 → (va_up g.2.2.2.2 g.1 (j1, j2, g.2.2.1, g.2.2.2.1)) i = g.2.2.2.2 i := fun i hi => va_up_ne _ _ (by omega)
          have m2 : (va_up g.2.2.2.2 g.1 (j1, j2, g.2.2.1, g.2.2.2.1)) g.1 = (j1, j2, g.2.2.1, g.2.2.2.1) := va_up_self _ _ _
          have t1 : ∀ i, i < g.1 + 1 → (upd tk g.1 (nI j1)) i = nI ((va_up g.2.2.2.2 g.1 (j1, j2, g.2.2.1, g.2.2.2.1)) i).1 := by
            intro i hi
            by_cases q : i = g.1
            · rw [q, pk_us, m2]
            · rw [pk_un q, m1 i (by omega)]; exact i1 i (by omega)
          have t2 : ∀ i, i < g.1 + 1 → (upd fe g.1 (nI j2)) i = nI ((va_up g.2.2.2.2 g.1 (j1, j2, g.2.2.1, g.2.2.2.1)) i).2.1 := by
            intro i hi
            by_cases q : i = g.1
            · rw [q, pk_us, m2]
            · rw [pk_un q, m1 i (by omega)]; exact i2 i (by omega)
          have t3 : ∀ i, i < g.1 + 1 → ∀ a, a < 3 → fi (3 * i + a) = sr_c ((va_up g.2.2.2.2 g.1 (j1, j2, g.2.2.1, g.2.2.2.1)) i).2.2.1 a := by
            intro i hi a ha
            by_cases q : i = g.1
            · rw [q, m2]; exact h5 a ha
            · rw [m1 i (by omega)]; exact h3 i (by omega) a ha
          have t4 : ∀ i, i < g.1 + 1 → ∀ a, a < 3 → la (3 * i + a) = sr_c ((va_up g.2.2.2.2 g.1 (j1, j2, g.2.2.1, g.2.2.2.1)) i).2.2.2 a := by
            intro i hi a ha
            by_cases q : i = g.1
            · rw [q, m2]; exact h6 a ha
            · rw [m1 i (by omega)]; exact h4 i (by omega) a ha
          exact W.iret hx hb hr (fun t ht hW => ⟨⟨_, _, rfl, ⟨(g.1 + 1, g.2.1, g.2.2.1, g.2.2.2.1, (va_up g.2.2.2.2 g.1 (j1, j2, g.2.2.1, g.2.2.2.1))), Or.inl ⟨hmok, rfl, hgb.symm⟩, bt, be, bf, bl, b1, b2, bq, (upd tk g.1 (nI j1)), (upd fe g.1 (nI j2)), fi, la, f1, l1, sp, nI 0, rfl, t1, t2, t3, t4, i5, i6, Or.inl rfl⟩, by rw [ht]; exact hP, hD⟩, hS.F ht⟩) hS.2.2 dX2_move_124
        · have hk3 : k < 3 := Nat.lt_of_not_le (fun h => c6 (nI_le h (by omega)))
          have hk31 : 3 * g.1 + k < 2 ^ 31 := by omega
          have hin1 : vp_in (nI (3 * g.1 + k)) 6000 := vp_in_nI (by omega) (by omega)
          have hin2 : vp_in (nI k) 3 := vp_in_nI hk3 (by omega)
          refine lv_aload_n hx hb dX2_move_61 rfl (lv_at hl 1 rfl) ?_
          refine va_get (D := D) (ci := 2) (v := .ref bf) (C := RX2) (T := TX2) (N := 10) hx hb hts in_X2 hown hKK.1 hP 0 rfl rfl 2 (by decide) (hts _ q184) (fun _ h9 => h9) rfl dX2_move_62 ?_
          refine lv_iconst (v := (nI 3)) hx hb dX2_move_65 (by decide +kernel) ?_
          refine lv_aload_n hx hb dX2_move_66 rfl (lv_at hl 1 rfl) ?_
          refine va_get (D := D) (ci := 2) (v := .int (nI g.1)) (C := RX2) (T := TX2) (N := 10) hx hb hts in_X2 hown hKK.1 hP 0 rfl rfl 6 (by decide) (hts _ q188) (fun _ h9 => h9) rfl dX2_move_67 ?_
          refine lv_imul hx hb dX2_move_70 ?_
          refine lv_iload_n hx hb dX2_move_71 rfl (lv_at hl 0 rfl) ?_
          refine lv_iadd hx hb dX2_move_72 ?_
          refine sr_ti (y := (nI (3 * g.1 + k))) (by rw [pk_mul, nI_add]) ?_
          refine lv_aload_n hx hb dX2_move_73 rfl (lv_at hl 1 rfl) ?_
          refine va_get (D := D) (ci := 2) (v := .ref b1) (C := RX2) (T := TX2) (N := 10) hx hb hts in_X2 hown hKK.1 hP 0 rfl rfl 4 (by decide) (hts _ q186) (fun _ h9 => h9) rfl dX2_move_74 ?_
          refine lv_iload_n hx hb dX2_move_77 rfl (lv_at hl 0 rfl) ?_
          refine va_bald hx hb hKK.1 hP 5 1 rfl rfl (hin2) dX2_move_78 ?_
          refine sr_ti (y := (sr_c g.2.2.1 k)) (by rw [nI_clamp (by omega)]; exact i5 k hk3) ?_
          refine va_bast hx hb hKK.1 hP hD hS 3 1 rfl rfl (hin1) dX2_move_79 (fun H locs hP hD hS => ?_)
          rw [nI_clamp hk31, sr_c_byte hg.2.2.2.1] at hP hD
          have hP : va_P D vwCl [(ay, .inr (2, [.ref bt, .ref be, .ref bf, .ref bl, .ref b1, .ref b2, .int (nI g.1), .int (nI g.2.1), .ref bq, .int kn])), (bt, .inl (cI, 2000, .inl (upd tk g.1 (nI j1)))), (be, .inl (cI, 2000, .inl (upd fe g.1 (nI j2)))), (bf, .inl (cB, 6000, .inl (upd fi (3 * g.1 + k) (sr_c g.2.2.1 k)))), (bl, .inl (cB, 6000, .inl la)), (b1, .inl (cB, 3, .inl f1)), (b2, .inl (cB, 3, .inl l1)), (bq, .inl (cI, 2001, .inl sp))] H := hP
          have hD : va_D A [(ay, .inr (2, [.ref bt, .ref be, .ref bf, .ref bl, .ref b1, .ref b2, .int (nI g.1), .int (nI g.2.1), .ref bq, .int kn])), (bt, .inl (cI, 2000, .inl (upd tk g.1 (nI j1)))), (be, .inl (cI, 2000, .inl (upd fe g.1 (nI j2)))), (bf, .inl (cB, 6000, .inl (upd fi (3 * g.1 + k) (sr_c g.2.2.1 k)))), (bl, .inl (cB, 6000, .inl la)), (b1, .inl (cB, 3, .inl f1)), (b2, .inl (cB, 3, .inl l1)), (bq, .inl (cI, 2001, .inl sp))] := hD
          refine lv_aload_n hx hb dX2_move_80 rfl (lv_at hl 1 rfl) ?_
          refine va_get (D := D) (ci := 2) (v := .ref bl) (C := RX2) (T := TX2) (N := 10) hx hb hts in_X2 hown hKK.1 hP 0 rfl rfl 3 (by decide) (hts _ q185) (fun _ h9 => h9) rfl dX2_move_81 ?_
          refine lv_iconst (v := (nI 3)) hx hb dX2_move_84 (by decide +kernel) ?_
          refine lv_aload_n hx hb dX2_move_85 rfl (lv_at hl 1 rfl) ?_
          refine va_get (D := D) (ci := 2) (v := .int (nI g.1)) (C := RX2) (T := TX2) (N := 10) hx hb hts in_X2 hown hKK.1 hP 0 rfl rfl 6 (by decide) (hts _ q188) (fun _ h9 => h9) rfl dX2_move_86 ?_
          refine lv_imul hx hb dX2_move_89 ?_
          refine lv_iload_n hx hb dX2_move_90 rfl (lv_at hl 0 rfl) ?_
          refine lv_iadd hx hb dX2_move_91 ?_
          refine sr_ti (y := (nI (3 * g.1 + k))) (by rw [pk_mul, nI_add]) ?_
          refine lv_aload_n hx hb dX2_move_92 rfl (lv_at hl 1 rfl) ?_
          refine va_get (D := D) (ci := 2) (v := .ref b2) (C := RX2) (T := TX2) (N := 10) hx hb hts in_X2 hown hKK.1 hP 0 rfl rfl 5 (by decide) (hts _ q187) (fun _ h9 => h9) rfl dX2_move_93 ?_
          refine lv_iload_n hx hb dX2_move_96 rfl (lv_at hl 0 rfl) ?_
          refine va_bald hx hb hKK.1 hP 6 1 rfl rfl (hin2) dX2_move_97 ?_
          refine sr_ti (y := (sr_c g.2.2.2.1 k)) (by rw [nI_clamp (by omega)]; exact i6 k hk3) ?_
          refine va_bast hx hb hKK.1 hP hD hS 4 1 rfl rfl (hin1) dX2_move_98 (fun H locs hP hD hS => ?_)
          rw [nI_clamp hk31, sr_c_byte hg.2.2.2.2.1] at hP hD
          have hP : va_P D vwCl [(ay, .inr (2, [.ref bt, .ref be, .ref bf, .ref bl, .ref b1, .ref b2, .int (nI g.1), .int (nI g.2.1), .ref bq, .int kn])), (bt, .inl (cI, 2000, .inl (upd tk g.1 (nI j1)))), (be, .inl (cI, 2000, .inl (upd fe g.1 (nI j2)))), (bf, .inl (cB, 6000, .inl (upd fi (3 * g.1 + k) (sr_c g.2.2.1 k)))), (bl, .inl (cB, 6000, .inl (upd la (3 * g.1 + k) (sr_c g.2.2.2.1 k)))), (b1, .inl (cB, 3, .inl f1)), (b2, .inl (cB, 3, .inl l1)), (bq, .inl (cI, 2001, .inl sp))] H := hP
          have hD : va_D A [(ay, .inr (2, [.ref bt, .ref be, .ref bf, .ref bl, .ref b1, .ref b2, .int (nI g.1), .int (nI g.2.1), .ref bq, .int kn])), (bt, .inl (cI, 2000, .inl (upd tk g.1 (nI j1)))), (be, .inl (cI, 2000, .inl (upd fe g.1 (nI j2)))), (bf, .inl (cB, 6000, .inl (upd fi (3 * g.1 + k) (sr_c g.2.2.1 k)))), (bl, .inl (cB, 6000, .inl (upd la (3 * g.1 + k) (sr_c g.2.2.2.1 k)))), (b1, .inl (cB, 3, .inl f1)), (b2, .inl (cB, 3, .inl l1)), (bq, .inl (cI, 2001, .inl sp))] := hD
          refine lv_iinc (v := (nI (k + 1))) (lv' := [(3, .int (nI (k + 1))), (0, .ref ay)]) hx hb dX2_move_99 hl (k := 0) rfl (nI_1 k) (by decide) rfl (fun ls hl => ?_)
          refine lv_goto (tgt := 56) hx hb dX2_move_102 (by decide) ?_
          refine ih (k + 1) _ _ H locs ls (by omega) (by omega) (fun i hi a ha => ?_) (fun i hi a ha => ?_) (fun a ha => ?_) (fun a ha => ?_) hP hD hS (lv_sub hl [0, 1] rfl)
          · rw [pk_un (by omega)]; exact h3 i hi a ha
          · rw [pk_un (by omega)]; exact h4 i hi a ha
          · by_cases q : a = k
            · rw [q, pk_us]
            · rw [pk_un (by omega)]; exact h5 a (by omega)
          · by_cases q : a = k
            · rw [q, pk_us]
            · rw [pk_un (by omega)]; exact h6 a (by omega)
    exact loop 4 0 fi la H locs ls (by omega) (by omega) i3 i4 (fun a ha => absurd ha (by omega)) (fun a ha => absurd ha (by omega)) hP hD hS (lv_sub hl [0, 1] rfl)
  · refine lv_iconst (v := (-1)) hx hb dX2_move_32 (by decide +kernel) ?_
    exact W.iret hx hb hr (fun t ht hW => ⟨⟨_, _, rfl, ⟨g, Or.inr ⟨fun h => h.2.2.2.2 ((nI_eq (by omega) (by decide)).mp c5), rfl, rfl⟩, ⟨bt, be, bf, bl, b1, b2, bq, tk, fe, fi, la, f1, l1, sp, kn, rfl, i1, i2, i3, i4, i5, i6, i7⟩⟩, by rw [ht]; exact hP, hD⟩, hS.F ht⟩) hS.2.2 dX2_move_33
set_option maxHeartbeats 4000000 in
set_option maxRecDepth 100000 in
/-- SpeedRowsModel(): the start -/
theorem sr_X2_init (l : Launch) (D : va_G) (cI cB cM : ClassId) (ay sz : Nat) : sr_CtV l D cI cB cM yX2_init wsX2_init ({ frames := 1, cells := 7, slots := 18007, locals := 20 } : Room) [.ref ay] [(ay, .inr (2, [.null, .null, .null, .null, .null, .null, .int 0, .int 0, .null, .int 0]))] sz (fun u => sr_MR cI cB ay sr_g0 u) 7 18007 := by
  have hD0 : va_D (fun _ => True) [(ay, .inr (2, [.null, .null, .null, .null, .null, .null, .int 0, .int 0, .null, .int 0]))] := ⟨fun i j p q hi hj _ => by have h1 := (List.getElem?_eq_some_iff.mp hi).1; have h2 := (List.getElem?_eq_some_iff.mp hj).1; simp only [List.length_cons, List.length_nil] at h1 h2; omega, fun _ _ _ => trivial⟩
  refine Met.ofW (cc := cX2_init) (maxL := 1) (ret := none) (by decide) rfl ?_
  intro p e s m args below meth c s₁ B hml hv
  obtain ⟨rfl, hKK, hsz, hP⟩ := hv
  have hx := B.exec
  have hb := B.bytes
  have hr := B.returns
  have hts := atoms_spec (ws := wsX2_init) B.pre
  have hts : ∀ w ∈ lw_all, w.before _ s = true := fun w h => hts w (List.mem_cons_of_mem _ h)
  have hown : s.vm.findClass RX2 = some m.cls := findClass_of_methodNamed B.named
  have hlocks := B.notSynchronized
  have hin : meth.name = "<init>" := (name_of_methodNamed B.named B.method).1
  subst hsz
  have hD := hD0.self (sz := s.heap.size)
  generalize hAe : va_A [(ay, .inr (2, [.null, .null, .null, .null, .null, .null, .int 0, .int 0, .null, .int 0]))] s.heap.size = A at hD ⊢
  have hA : ∀ q : Nat, s.heap.size ≤ q → A q := fun q h => by rw [← hAe]; exact Or.inr h
  have hS : va_S A s.heap s.heap [] := va_S.rf
  have hP : va_P D vwCl [(ay, .inr (2, [.null, .null, .null, .null, .null, .null, .int 0, .int 0, .null, .int 0]))] s.heap := hP
  have hl := lv_entry ([.ref ay]) (n := 1) (Nat.le_of_ble_eq_true rfl)
  rw [lg_entry_eq]
  generalize (lg_sl ([.ref ay]) ++ List.replicate (1 - (lg_sl ([.ref ay])).length) Slot.unset).toArray = ls at hl ⊢
  have hl : lv_has ls 1 [(0, .ref ay)] := hl
  refine lv_aload_n hx hb dX2_init_0 rfl (lv_at hl 0 rfl) ?_
  refine W.objInit hx hb hown (hts _ q181) (hts _ q19) (hts _ q20) rfl (by rw [hml]; exact hl.1) rfl dX2_init_1 (Nat.le_of_ble_eq_true rfl) (Nat.le_of_ble_eq_true rfl) ?_
  refine W.eq (g2 := F0 m 4 ls []) rfl ?_
  refine lv_aload_n hx hb dX2_init_4 rfl (lv_at hl 0 rfl) ?_
  refine lv_sipush (v := (nI 2000)) hx hb dX2_init_5 (by decide +kernel) ?_
  refine va_newa (atype := .int) (N' := 2000) (a0 := (2000, .inl (fun _ => 0))) (ty := .int) hx hb (hts _ q42) rfl hKK.1 hP hD hS hA (fun _ => rfl) (by decide +kernel) (by decide +kernel) (by decide) (Nat.le_of_ble_eq_true rfl) (Nat.le_of_ble_eq_true rfl) dX2_init_8 (fun bt cbt H hK1 hP hD hS => ?_)
  have ebt : cbt = cI := sr_ra_i (hK1.2 3 _ rfl).2 (hKK.1.2 0 _ rfl).2
  rw [ebt] at hP hD
  have hP : va_P D vwCl [(ay, .inr (2, [.null, .null, .null, .null, .null, .null, .int 0, .int 0, .null, .int 0])), (bt, .inl (cI, 2000, .inl (fun _ => 0)))] H := hP
  have hD : va_D A [(ay, .inr (2, [.null, .null, .null, .null, .null, .null, .int 0, .int 0, .null, .int 0])), (bt, .inl (cI, 2000, .inl (fun _ => 0)))] := hD
  refine W.widen (k := 1) (n := 2000) (by omega) (by omega) ?_
  refine va_putF (D := D) (ci := 2) (v := .ref bt) (ty := .array .int) (C := RX2) (T := TX2) (N := 10) hx hb hts in_X2 tyX2 tyX2_ok nmX2 hown hKK.1 hP hD hS 0 rfl rfl 0 (by decide) (hts _ q182) (fun _ h9 => h9) rfl hin rfl (by decide +kernel) rfl rfl (Nat.le_of_ble_eq_true rfl) dX2_init_10 (fun H locs hP hD hS => ?_)
  have hP : va_P D vwCl [(ay, .inr (2, [.ref bt, .null, .null, .null, .null, .null, .int 0, .int 0, .null, .int 0])), (bt, .inl (cI, 2000, .inl (fun _ => 0)))] H := hP
  have hD : va_D A [(ay, .inr (2, [.ref bt, .null, .null, .null, .null, .null, .int 0, .int 0, .null, .int 0])), (bt, .inl (cI, 2000, .inl (fun _ => 0)))] := hD
  refine lv_aload_n hx hb dX2_init_13 rfl (lv_at hl 0 rfl) ?_
  refine lv_sipush (v := (nI 2000)) hx hb dX2_init_14 (by decide +kernel) ?_
  refine va_newa (atype := .int) (N' := 2000) (a0 := (2000, .inl (fun _ => 0))) (ty := .int) hx hb (hts _ q42) rfl hKK.1 hP hD hS hA (fun _ => rfl) (by decide +kernel) (by decide +kernel) (by decide) (Nat.le_of_ble_eq_true rfl) (Nat.le_of_ble_eq_true rfl) dX2_init_17 (fun be cbe H hK1 hP hD hS => ?_)
  have ebe : cbe = cI := sr_ra_i (hK1.2 3 _ rfl).2 (hKK.1.2 0 _ rfl).2
  rw [ebe] at hP hD
  have hP : va_P D vwCl [(ay, .inr (2, [.ref bt, .null, .null, .null, .null, .null, .int 0, .int 0, .null, .int 0])), (bt, .inl (cI, 2000, .inl (fun _ => 0))), (be, .inl (cI, 2000, .inl (fun _ => 0)))] H := hP
  have hD : va_D A [(ay, .inr (2, [.ref bt, .null, .null, .null, .null, .null, .int 0, .int 0, .null, .int 0])), (bt, .inl (cI, 2000, .inl (fun _ => 0))), (be, .inl (cI, 2000, .inl (fun _ => 0)))] := hD
  refine W.widen (k := 2) (n := 4000) (by omega) (by omega) ?_
  refine va_putF (D := D) (ci := 2) (v := .ref be) (ty := .array .int) (C := RX2) (T := TX2) (N := 10) hx hb hts in_X2 tyX2 tyX2_ok nmX2 hown hKK.1 hP hD hS 0 rfl rfl 1 (by decide) (hts _ q183) (fun _ h9 => h9) rfl hin rfl (by decide +kernel) rfl rfl (Nat.le_of_ble_eq_true rfl) dX2_init_19 (fun H locs hP hD hS => ?_)
  have hP : va_P D vwCl [(ay, .inr (2, [.ref bt, .ref be, .null, .null, .null, .null, .int 0, .int 0, .null, .int 0])), (bt, .inl (cI, 2000, .inl (fun _ => 0))), (be, .inl (cI, 2000, .inl (fun _ => 0)))] H := hP
  have hD : va_D A [(ay, .inr (2, [.ref bt, .ref be, .null, .null, .null, .null, .int 0, .int 0, .null, .int 0])), (bt, .inl (cI, 2000, .inl (fun _ => 0))), (be, .inl (cI, 2000, .inl (fun _ => 0)))] := hD
  refine lv_aload_n hx hb dX2_init_22 rfl (lv_at hl 0 rfl) ?_
  refine lv_sipush (v := (nI 6000)) hx hb dX2_init_23 (by decide +kernel) ?_
  refine va_newa (atype := .byte) (N' := 6000) (a0 := (6000, .inl (fun _ => 0))) (ty := .byte) hx hb (hts _ q213) rfl hKK.1 hP hD hS hA (fun _ => rfl) (by decide +kernel) (by decide +kernel) (by decide) (Nat.le_of_ble_eq_true rfl) (Nat.le_of_ble_eq_true rfl) dX2_init_26 (fun bf cbf H hK1 hP hD hS => ?_)
  have ebf : cbf = cB := sr_ra_b (hK1.2 3 _ rfl).2 (hKK.1.2 1 _ rfl).2
  rw [ebf] at hP hD
  have hP : va_P D vwCl [(ay, .inr (2, [.ref bt, .ref be, .null, .null, .null, .null, .int 0, .int 0, .null, .int 0])), (bt, .inl (cI, 2000, .inl (fun _ => 0))), (be, .inl (cI, 2000, .inl (fun _ => 0))), (bf, .inl (cB, 6000, .inl (fun _ => 0)))] H := hP
  have hD : va_D A [(ay, .inr (2, [.ref bt, .ref be, .null, .null, .null, .null, .int 0, .int 0, .null, .int 0])), (bt, .inl (cI, 2000, .inl (fun _ => 0))), (be, .inl (cI, 2000, .inl (fun _ => 0))), (bf, .inl (cB, 6000, .inl (fun _ => 0)))] := hD
  refine W.widen (k := 3) (n := 10000) (by omega) (by omega) ?_
  refine va_putF (D := D) (ci := 2) (v := .ref bf) (ty := .array .byte) (C := RX2) (T := TX2) (N := 10) hx hb hts in_X2 tyX2 tyX2_ok nmX2 hown hKK.1 hP hD hS 0 rfl rfl 2 (by decide) (hts _ q184) (fun _ h9 => h9) rfl hin rfl (by decide +kernel) rfl rfl (Nat.le_of_ble_eq_true rfl) dX2_init_28 (fun H locs hP hD hS => ?_)
  have hP : va_P D vwCl [(ay, .inr (2, [.ref bt, .ref be, .ref bf, .null, .null, .null, .int 0, .int 0, .null, .int 0])), (bt, .inl (cI, 2000, .inl (fun _ => 0))), (be, .inl (cI, 2000, .inl (fun _ => 0))), (bf, .inl (cB, 6000, .inl (fun _ => 0)))] H := hP
  have hD : va_D A [(ay, .inr (2, [.ref bt, .ref be, .ref bf, .null, .null, .null, .int 0, .int 0, .null, .int 0])), (bt, .inl (cI, 2000, .inl (fun _ => 0))), (be, .inl (cI, 2000, .inl (fun _ => 0))), (bf, .inl (cB, 6000, .inl (fun _ => 0)))] := hD
  refine lv_aload_n hx hb dX2_init_31 rfl (lv_at hl 0 rfl) ?_
  refine lv_sipush (v := (nI 6000)) hx hb dX2_init_32 (by decide +kernel) ?_
  refine va_newa (atype := .byte) (N' := 6000) (a0 := (6000, .inl (fun _ => 0))) (ty := .byte) hx hb (hts _ q213) rfl hKK.1 hP hD hS hA (fun _ => rfl) (by decide +kernel) (by decide +kernel) (by decide) (Nat.le_of_ble_eq_true rfl) (Nat.le_of_ble_eq_true rfl) dX2_init_35 (fun bl cbl H hK1 hP hD hS => ?_)
  have ebl : cbl = cB := sr_ra_b (hK1.2 3 _ rfl).2 (hKK.1.2 1 _ rfl).2
  rw [ebl] at hP hD
  have hP : va_P D vwCl [(ay, .inr (2, [.ref bt, .ref be, .ref bf, .null, .null, .null, .int 0, .int 0, .null, .int 0])), (bt, .inl (cI, 2000, .inl (fun _ => 0))), (be, .inl (cI, 2000, .inl (fun _ => 0))), (bf, .inl (cB, 6000, .inl (fun _ => 0))), (bl, .inl (cB, 6000, .inl (fun _ => 0)))] H := hP
  have hD : va_D A [(ay, .inr (2, [.ref bt, .ref be, .ref bf, .null, .null, .null, .int 0, .int 0, .null, .int 0])), (bt, .inl (cI, 2000, .inl (fun _ => 0))), (be, .inl (cI, 2000, .inl (fun _ => 0))), (bf, .inl (cB, 6000, .inl (fun _ => 0))), (bl, .inl (cB, 6000, .inl (fun _ => 0)))] := hD
  refine W.widen (k := 4) (n := 16000) (by omega) (by omega) ?_
  refine va_putF (D := D) (ci := 2) (v := .ref bl) (ty := .array .byte) (C := RX2) (T := TX2) (N := 10) hx hb hts in_X2 tyX2 tyX2_ok nmX2 hown hKK.1 hP hD hS 0 rfl rfl 3 (by decide) (hts _ q185) (fun _ h9 => h9) rfl hin rfl (by decide +kernel) rfl rfl (Nat.le_of_ble_eq_true rfl) dX2_init_37 (fun H locs hP hD hS => ?_)
  have hP : va_P D vwCl [(ay, .inr (2, [.ref bt, .ref be, .ref bf, .ref bl, .null, .null, .int 0, .int 0, .null, .int 0])), (bt, .inl (cI, 2000, .inl (fun _ => 0))), (be, .inl (cI, 2000, .inl (fun _ => 0))), (bf, .inl (cB, 6000, .inl (fun _ => 0))), (bl, .inl (cB, 6000, .inl (fun _ => 0)))] H := hP
  have hD : va_D A [(ay, .inr (2, [.ref bt, .ref be, .ref bf, .ref bl, .null, .null, .int 0, .int 0, .null, .int 0])), (bt, .inl (cI, 2000, .inl (fun _ => 0))), (be, .inl (cI, 2000, .inl (fun _ => 0))), (bf, .inl (cB, 6000, .inl (fun _ => 0))), (bl, .inl (cB, 6000, .inl (fun _ => 0)))] := hD
  refine lv_aload_n hx hb dX2_init_40 rfl (lv_at hl 0 rfl) ?_
  refine lv_iconst (v := (nI 3)) hx hb dX2_init_41 (by decide +kernel) ?_
  refine va_newa (atype := .byte) (N' := 3) (a0 := (3, .inl (fun _ => 0))) (ty := .byte) hx hb (hts _ q213) rfl hKK.1 hP hD hS hA (fun _ => rfl) (by decide +kernel) (by decide +kernel) (by decide) (Nat.le_of_ble_eq_true rfl) (Nat.le_of_ble_eq_true rfl) dX2_init_42 (fun b1 cb1 H hK1 hP hD hS => ?_)
  have eb1 : cb1 = cB := sr_ra_b (hK1.2 3 _ rfl).2 (hKK.1.2 1 _ rfl).2
  rw [eb1] at hP hD
  have hP : va_P D vwCl [(ay, .inr (2, [.ref bt, .ref be, .ref bf, .ref bl, .null, .null, .int 0, .int 0, .null, .int 0])), (bt, .inl (cI, 2000, .inl (fun _ => 0))), (be, .inl (cI, 2000, .inl (fun _ => 0))), (bf, .inl (cB, 6000, .inl (fun _ => 0))), (bl, .inl (cB, 6000, .inl (fun _ => 0))), (b1, .inl (cB, 3, .inl (fun _ => 0)))] H := hP
  have hD : va_D A [(ay, .inr (2, [.ref bt, .ref be, .ref bf, .ref bl, .null, .null, .int 0, .int 0, .null, .int 0])), (bt, .inl (cI, 2000, .inl (fun _ => 0))), (be, .inl (cI, 2000, .inl (fun _ => 0))), (bf, .inl (cB, 6000, .inl (fun _ => 0))), (bl, .inl (cB, 6000, .inl (fun _ => 0))), (b1, .inl (cB, 3, .inl (fun _ => 0)))] := hD
  refine W.widen (k := 5) (n := 16003) (by omega) (by omega) ?_
  refine va_putF (D := D) (ci := 2) (v := .ref b1) (ty := .array .byte) (C := RX2) (T := TX2) (N := 10) hx hb hts in_X2 tyX2 tyX2_ok nmX2 hown hKK.1 hP hD hS 0 rfl rfl 4 (by decide) (hts _ q186) (fun _ h9 => h9) rfl hin rfl (by decide +kernel) rfl rfl (Nat.le_of_ble_eq_true rfl) dX2_init_44 (fun H locs hP hD hS => ?_)
  have hP : va_P D vwCl [(ay, .inr (2, [.ref bt, .ref be, .ref bf, .ref bl, .ref b1, .null, .int 0, .int 0, .null, .int 0])), (bt, .inl (cI, 2000, .inl (fun _ => 0))), (be, .inl (cI, 2000, .inl (fun _ => 0))), (bf, .inl (cB, 6000, .inl (fun _ => 0))), (bl, .inl (cB, 6000, .inl (fun _ => 0))), (b1, .inl (cB, 3, .inl (fun _ => 0)))] H := hP
  have hD : va_D A [(ay, .inr (2, [.ref bt, .ref be, .ref bf, .ref bl, .ref b1, .null, .int 0, .int 0, .null, .int 0])), (bt, .inl (cI, 2000, .inl (fun _ => 0))), (be, .inl (cI, 2000, .inl (fun _ => 0))), (bf, .inl (cB, 6000, .inl (fun _ => 0))), (bl, .inl (cB, 6000, .inl (fun _ => 0))), (b1, .inl (cB, 3, .inl (fun _ => 0)))] := hD
  refine lv_aload_n hx hb dX2_init_47 rfl (lv_at hl 0 rfl) ?_
  refine lv_iconst (v := (nI 3)) hx hb dX2_init_48 (by decide +kernel) ?_
  refine va_newa (atype := .byte) (N' := 3) (a0 := (3, .inl (fun _ => 0))) (ty := .byte) hx hb (hts _ q213) rfl hKK.1 hP hD hS hA (fun _ => rfl) (by decide +kernel) (by decide +kernel) (by decide) (Nat.le_of_ble_eq_true rfl) (Nat.le_of_ble_eq_true rfl) dX2_init_49 (fun b2 cb2 H hK1 hP hD hS => ?_)
  have eb2 : cb2 = cB := sr_ra_b (hK1.2 3 _ rfl).2 (hKK.1.2 1 _ rfl).2
  rw [eb2] at hP hD
  have hP : va_P D vwCl [(ay, .inr (2, [.ref bt, .ref be, .ref bf, .ref bl, .ref b1, .null, .int 0, .int 0, .null, .int 0])), (bt, .inl (cI, 2000, .inl (fun _ => 0))), (be, .inl (cI, 2000, .inl (fun _ => 0))), (bf, .inl (cB, 6000, .inl (fun _ => 0))), (bl, .inl (cB, 6000, .inl (fun _ => 0))), (b1, .inl (cB, 3, .inl (fun _ => 0))), (b2, .inl (cB, 3, .inl (fun _ => 0)))] H := hP
  have hD : va_D A [(ay, .inr (2, [.ref bt, .ref be, .ref bf, .ref bl, .ref b1, .null, .int 0, .int 0, .null, .int 0])), (bt, .inl (cI, 2000, .inl (fun _ => 0))), (be, .inl (cI, 2000, .inl (fun _ => 0))), (bf, .inl (cB, 6000, .inl (fun _ => 0))), (bl, .inl (cB, 6000, .inl (fun _ => 0))), (b1, .inl (cB, 3, .inl (fun _ => 0))), (b2, .inl (cB, 3, .inl (fun _ => 0)))] := hD
  refine W.widen (k := 6) (n := 16006) (by omega) (by omega) ?_
  refine va_putF (D := D) (ci := 2) (v := .ref b2) (ty := .array .byte) (C := RX2) (T := TX2) (N := 10) hx hb hts in_X2 tyX2 tyX2_ok nmX2 hown hKK.1 hP hD hS 0 rfl rfl 5 (by decide) (hts _ q187) (fun _ h9 => h9) rfl hin rfl (by decide +kernel) rfl rfl (Nat.le_of_ble_eq_true rfl) dX2_init_51 (fun H locs hP hD hS => ?_)
  have hP : va_P D vwCl [(ay, .inr (2, [.ref bt, .ref be, .ref bf, .ref bl, .ref b1, .ref b2, .int 0, .int 0, .null, .int 0])), (bt, .inl (cI, 2000, .inl (fun _ => 0))), (be, .inl (cI, 2000, .inl (fun _ => 0))), (bf, .inl (cB, 6000, .inl (fun _ => 0))), (bl, .inl (cB, 6000, .inl (fun _ => 0))), (b1, .inl (cB, 3, .inl (fun _ => 0))), (b2, .inl (cB, 3, .inl (fun _ => 0)))] H := hP
  have hD : va_D A [(ay, .inr (2, [.ref bt, .ref be, .ref bf, .ref bl, .ref b1, .ref b2, .int 0, .int 0, .null, .int 0])), (bt, .inl (cI, 2000, .inl (fun _ => 0))), (be, .inl (cI, 2000, .inl (fun _ => 0))), (bf, .inl (cB, 6000, .inl (fun _ => 0))), (bl, .inl (cB, 6000, .inl (fun _ => 0))), (b1, .inl (cB, 3, .inl (fun _ => 0))), (b2, .inl (cB, 3, .inl (fun _ => 0)))] := hD
  refine lv_aload_n hx hb dX2_init_54 rfl (lv_at hl 0 rfl) ?_
  refine lv_bipush (v := (nI 100)) hx hb dX2_init_55 (by decide +kernel) ?_
  refine va_put (D := D) (ci := 2) (v := .int (nI 100)) (ty := .int) (C := RX2) (T := TX2) (N := 10) hx hb hts in_X2 tyX2 tyX2_ok nmX2 hown hKK.1 hP hD hS 0 rfl rfl 7 (by decide) (hts _ q189) (fun _ h9 => h9) rfl (by decide +kernel) rfl rfl (Nat.le_of_ble_eq_true rfl) dX2_init_57 (fun H locs hP hD hS => ?_)
  have hP : va_P D vwCl [(ay, .inr (2, [.ref bt, .ref be, .ref bf, .ref bl, .ref b1, .ref b2, .int 0, .int (nI 100), .null, .int 0])), (bt, .inl (cI, 2000, .inl (fun _ => 0))), (be, .inl (cI, 2000, .inl (fun _ => 0))), (bf, .inl (cB, 6000, .inl (fun _ => 0))), (bl, .inl (cB, 6000, .inl (fun _ => 0))), (b1, .inl (cB, 3, .inl (fun _ => 0))), (b2, .inl (cB, 3, .inl (fun _ => 0)))] H := hP
  have hD : va_D A [(ay, .inr (2, [.ref bt, .ref be, .ref bf, .ref bl, .ref b1, .ref b2, .int 0, .int (nI 100), .null, .int 0])), (bt, .inl (cI, 2000, .inl (fun _ => 0))), (be, .inl (cI, 2000, .inl (fun _ => 0))), (bf, .inl (cB, 6000, .inl (fun _ => 0))), (bl, .inl (cB, 6000, .inl (fun _ => 0))), (b1, .inl (cB, 3, .inl (fun _ => 0))), (b2, .inl (cB, 3, .inl (fun _ => 0)))] := hD
  refine lv_aload_n hx hb dX2_init_60 rfl (lv_at hl 0 rfl) ?_
  refine lv_sipush (v := (nI 2001)) hx hb dX2_init_61 (by decide +kernel) ?_
  refine va_newa (atype := .int) (N' := 2001) (a0 := (2001, .inl (fun _ => 0))) (ty := .int) hx hb (hts _ q42) rfl hKK.1 hP hD hS hA (fun _ => rfl) (by decide +kernel) (by decide +kernel) (by decide) (Nat.le_of_ble_eq_true rfl) (Nat.le_of_ble_eq_true rfl) dX2_init_64 (fun bq cbq H hK1 hP hD hS => ?_)
  have ebq : cbq = cI := sr_ra_i (hK1.2 3 _ rfl).2 (hKK.1.2 0 _ rfl).2
  rw [ebq] at hP hD
  have hP : va_P D vwCl [(ay, .inr (2, [.ref bt, .ref be, .ref bf, .ref bl, .ref b1, .ref b2, .int 0, .int (nI 100), .null, .int 0])), (bt, .inl (cI, 2000, .inl (fun _ => 0))), (be, .inl (cI, 2000, .inl (fun _ => 0))), (bf, .inl (cB, 6000, .inl (fun _ => 0))), (bl, .inl (cB, 6000, .inl (fun _ => 0))), (b1, .inl (cB, 3, .inl (fun _ => 0))), (b2, .inl (cB, 3, .inl (fun _ => 0))), (bq, .inl (cI, 2001, .inl (fun _ => 0)))] H := hP
  have hD : va_D A [(ay, .inr (2, [.ref bt, .ref be, .ref bf, .ref bl, .ref b1, .ref b2, .int 0, .int (nI 100), .null, .int 0])), (bt, .inl (cI, 2000, .inl (fun _ => 0))), (be, .inl (cI, 2000, .inl (fun _ => 0))), (bf, .inl (cB, 6000, .inl (fun _ => 0))), (bl, .inl (cB, 6000, .inl (fun _ => 0))), (b1, .inl (cB, 3, .inl (fun _ => 0))), (b2, .inl (cB, 3, .inl (fun _ => 0))), (bq, .inl (cI, 2001, .inl (fun _ => 0)))] := hD
  refine W.widen (k := 7) (n := 18007) (by omega) (by omega) ?_
  refine va_putF (D := D) (ci := 2) (v := .ref bq) (ty := .array .int) (C := RX2) (T := TX2) (N := 10) hx hb hts in_X2 tyX2 tyX2_ok nmX2 hown hKK.1 hP hD hS 0 rfl rfl 8 (by decide) (hts _ q190) (fun _ h9 => h9) rfl hin rfl (by decide +kernel) rfl rfl (Nat.le_of_ble_eq_true rfl) dX2_init_66 (fun H locs hP hD hS => ?_)
  have hP : va_P D vwCl [(ay, .inr (2, [.ref bt, .ref be, .ref bf, .ref bl, .ref b1, .ref b2, .int 0, .int (nI 100), .ref bq, .int 0])), (bt, .inl (cI, 2000, .inl (fun _ => 0))), (be, .inl (cI, 2000, .inl (fun _ => 0))), (bf, .inl (cB, 6000, .inl (fun _ => 0))), (bl, .inl (cB, 6000, .inl (fun _ => 0))), (b1, .inl (cB, 3, .inl (fun _ => 0))), (b2, .inl (cB, 3, .inl (fun _ => 0))), (bq, .inl (cI, 2001, .inl (fun _ => 0)))] H := hP
  have hD : va_D A [(ay, .inr (2, [.ref bt, .ref be, .ref bf, .ref bl, .ref b1, .ref b2, .int 0, .int (nI 100), .ref bq, .int 0])), (bt, .inl (cI, 2000, .inl (fun _ => 0))), (be, .inl (cI, 2000, .inl (fun _ => 0))), (bf, .inl (cB, 6000, .inl (fun _ => 0))), (bl, .inl (cB, 6000, .inl (fun _ => 0))), (b1, .inl (cB, 3, .inl (fun _ => 0))), (b2, .inl (cB, 3, .inl (fun _ => 0))), (bq, .inl (cI, 2001, .inl (fun _ => 0)))] := hD
  refine lv_aload_n hx hb dX2_init_69 rfl (lv_at hl 0 rfl) ?_
  refine va_get (D := D) (ci := 2) (v := .ref b1) (C := RX2) (T := TX2) (N := 10) hx hb hts in_X2 hown hKK.1 hP 0 rfl rfl 4 (by decide) (hts _ q186) (fun _ h9 => h9) rfl dX2_init_70 ?_
  refine lv_iconst (v := (nI 0)) hx hb dX2_init_73 (by decide +kernel) ?_
  refine lv_iconst (v := (nI 1)) hx hb dX2_init_74 (by decide +kernel) ?_
  refine va_bast hx hb hKK.1 hP hD hS 5 1 rfl rfl (vp_in_nI (by decide) (by decide)) dX2_init_75 (fun H locs hP hD hS => ?_)
  have ef1 : upd (fun _ => (0 : Int32)) (nI 0).toNatClampNeg (vp_nar .byte (nI 1)) = upd (fun _ => 0) 0 1 := by rw [nI_clamp (by decide)]; rfl
  rw [ef1] at hP hD
  have hP : va_P D vwCl [(ay, .inr (2, [.ref bt, .ref be, .ref bf, .ref bl, .ref b1, .ref b2, .int 0, .int (nI 100), .ref bq, .int 0])), (bt, .inl (cI, 2000, .inl (fun _ => 0))), (be, .inl (cI, 2000, .inl (fun _ => 0))), (bf, .inl (cB, 6000, .inl (fun _ => 0))), (bl, .inl (cB, 6000, .inl (fun _ => 0))), (b1, .inl (cB, 3, .inl (upd (fun _ => 0) 0 1))), (b2, .inl (cB, 3, .inl (fun _ => 0))), (bq, .inl (cI, 2001, .inl (fun _ => 0)))] H := hP
  have hD : va_D A [(ay, .inr (2, [.ref bt, .ref be, .ref bf, .ref bl, .ref b1, .ref b2, .int 0, .int (nI 100), .ref bq, .int 0])), (bt, .inl (cI, 2000, .inl (fun _ => 0))), (be, .inl (cI, 2000, .inl (fun _ => 0))), (bf, .inl (cB, 6000, .inl (fun _ => 0))), (bl, .inl (cB, 6000, .inl (fun _ => 0))), (b1, .inl (cB, 3, .inl (upd (fun _ => 0) 0 1))), (b2, .inl (cB, 3, .inl (fun _ => 0))), (bq, .inl (cI, 2001, .inl (fun _ => 0)))] := hD
  refine lv_aload_n hx hb dX2_init_76 rfl (lv_at hl 0 rfl) ?_
  refine va_get (D := D) (ci := 2) (v := .ref b2) (C := RX2) (T := TX2) (N := 10) hx hb hts in_X2 hown hKK.1 hP 0 rfl rfl 5 (by decide) (hts _ q187) (fun _ h9 => h9) rfl dX2_init_77 ?_
  refine lv_iconst (v := (nI 0)) hx hb dX2_init_80 (by decide +kernel) ?_
  refine lv_iconst (v := (nI 1)) hx hb dX2_init_81 (by decide +kernel) ?_
  refine va_bast hx hb hKK.1 hP hD hS 6 1 rfl rfl (vp_in_nI (by decide) (by decide)) dX2_init_82 (fun H locs hP hD hS => ?_)
  have el1 : upd (fun _ => (0 : Int32)) (nI 0).toNatClampNeg (vp_nar .byte (nI 1)) = upd (fun _ => 0) 0 1 := by rw [nI_clamp (by decide)]; rfl
  rw [el1] at hP hD
  have hP : va_P D vwCl [(ay, .inr (2, [.ref bt, .ref be, .ref bf, .ref bl, .ref b1, .ref b2, .int 0, .int (nI 100), .ref bq, .int 0])), (bt, .inl (cI, 2000, .inl (fun _ => 0))), (be, .inl (cI, 2000, .inl (fun _ => 0))), (bf, .inl (cB, 6000, .inl (fun _ => 0))), (bl, .inl (cB, 6000, .inl (fun _ => 0))), (b1, .inl (cB, 3, .inl (upd (fun _ => 0) 0 1))), (b2, .inl (cB, 3, .inl (upd (fun _ => 0) 0 1))), (bq, .inl (cI, 2001, .inl (fun _ => 0)))] H := hP
  have hD : va_D A [(ay, .inr (2, [.ref bt, .ref be, .ref bf, .ref bl, .ref b1, .ref b2, .int 0, .int (nI 100), .ref bq, .int 0])), (bt, .inl (cI, 2000, .inl (fun _ => 0))), (be, .inl (cI, 2000, .inl (fun _ => 0))), (bf, .inl (cB, 6000, .inl (fun _ => 0))), (bl, .inl (cB, 6000, .inl (fun _ => 0))), (b1, .inl (cB, 3, .inl (upd (fun _ => 0) 0 1))), (b2, .inl (cB, 3, .inl (upd (fun _ => 0) 0 1))), (bq, .inl (cI, 2001, .inl (fun _ => 0)))] := hD
  exact W.vret hx hb hr (fun t ht hW => ⟨⟨_, rfl, ⟨bt, be, bf, bl, b1, b2, bq, (fun _ => 0), (fun _ => 0), (fun _ => 0), (fun _ => 0), upd (fun _ => 0) 0 1, upd (fun _ => 0) 0 1, (fun _ => 0), 0, rfl, fun i h => absurd h (Nat.not_lt_zero i), fun i h => absurd h (Nat.not_lt_zero i), fun i h => absurd h (Nat.not_lt_zero i), fun i h => absurd h (Nat.not_lt_zero i), sr_c3 rfl rfl rfl, sr_c3 rfl rfl rfl, Or.inl rfl⟩, by rw [ht]; exact hP, hD⟩, hS.F ht⟩) hS.2.2 dX2_init_83
end
section
/-! SpeedRowsModel: know, speed, sum, below -/
abbrev wsX2_know : List Cond := ws_ yX2_know cX2_know 3 none
abbrev wsX2_speed : List Cond := ws_ yX2_speed cX2_speed 2 (some .int)
abbrev wsX2_sum : List Cond := ws_ yX2_sum cX2_sum 4 (some .long)
abbrev wsX2_below : List Cond := ws_ yX2_below cX2_below 3 (some .int)
set_option maxHeartbeats 4000000 in
set_option maxRecDepth 100000 in
/-- know(): the speeds are lowered till none is too great -/
theorem sr_X2_know (l : Launch) (D : va_G) (cI cB cM : ClassId) (ay sz : Nat) (g : sr_Sg) (hg : sr_OK g) (w : va_W) (hw : sr_MR cI cB ay g w) (hD0 : va_D (fun _ => True) w) : sr_CtV l D cI cB cM yX2_know wsX2_know ({ frames := 2, cells := 0, slots := 0, locals := 70 } : Room) [.ref ay] w sz (fun u => sr_M1 cI cB ay g u) 0 0 := by
  obtain ⟨bt, be, bf, bl, b1, b2, bq, tk, fe, fi, la, f1, l1, sp, kn, rfl, i1, i2, i3, i4, i5, i6, i7⟩ := hw
  refine Met.ofW (cc := cX2_know) (maxL := 3) (ret := none) (by decide) rfl ?_
  intro p e s m args below meth c s₁ B hml hv
  obtain ⟨rfl, hKK, hsz, hP⟩ := hv
  have hx := B.exec
  have hb := B.bytes
  have hr := B.returns
  have hts := atoms_spec (ws := wsX2_know) B.pre
  have hts : ∀ w ∈ lw_all, w.before _ s = true := fun w h => hts w (List.mem_cons_of_mem _ h)
  have hown : s.vm.findClass RX2 = some m.cls := findClass_of_methodNamed B.named
  have hlocks := B.notSynchronized
  subst hsz
  have hD := hD0.self (sz := s.heap.size)
  generalize hAe : va_A [(ay, .inr (2, [.ref bt, .ref be, .ref bf, .ref bl, .ref b1, .ref b2, .int (nI g.1), .int (nI g.2.1), .ref bq, .int kn])), (bt, .inl (cI, 2000, .inl tk)), (be, .inl (cI, 2000, .inl fe)), (bf, .inl (cB, 6000, .inl fi)), (bl, .inl (cB, 6000, .inl la)), (b1, .inl (cB, 3, .inl f1)), (b2, .inl (cB, 3, .inl l1)), (bq, .inl (cI, 2001, .inl sp))] s.heap.size = A at hD ⊢
  have hA : ∀ q : Nat, s.heap.size ≤ q → A q := fun q h => by rw [← hAe]; exact Or.inr h
  have hS : va_S A s.heap s.heap [] := va_S.rf
  have hP : va_P D vwCl [(ay, .inr (2, [.ref bt, .ref be, .ref bf, .ref bl, .ref b1, .ref b2, .int (nI g.1), .int (nI g.2.1), .ref bq, .int kn])), (bt, .inl (cI, 2000, .inl tk)), (be, .inl (cI, 2000, .inl fe)), (bf, .inl (cB, 6000, .inl fi)), (bl, .inl (cB, 6000, .inl la)), (b1, .inl (cB, 3, .inl f1)), (b2, .inl (cB, 3, .inl l1)), (bq, .inl (cI, 2001, .inl sp))] s.heap := hP
  have hl := lv_entry ([.ref ay]) (n := 3) (Nat.le_of_ble_eq_true rfl)
  rw [lg_entry_eq]
  generalize (lg_sl ([.ref ay]) ++ List.replicate (3 - (lg_sl ([.ref ay])).length) Slot.unset).toArray = ls at hl ⊢
  have hl : lv_has ls 3 [(0, .ref ay)] := hl
  refine lv_aload_n hx hb dX2_know_0 rfl (lv_at hl 0 rfl) ?_
  refine va_get (D := D) (ci := 2) (v := .int kn) (C := RX2) (T := TX2) (N := 10) hx hb hts in_X2 hown hKK.1 hP 0 rfl rfl 9 (by decide) (hts _ q191) (fun _ h9 => h9) rfl dX2_know_1 ?_
  rcases i7 with rfl | ⟨rfl, i7⟩
  · refine lv_if_eq (tgt := 8) hx hb dX2_know_4 (by decide) (fun c_ => ?_) (fun c_ => absurd (rfl) c_)
    have hg1 := hg.1
    have hgm := hg.2.2.2.2.2
    have hga := hg.2.2.1
    refine lv_aload_n hx hb dX2_know_8 rfl (lv_at hl 0 rfl) ?_
    refine lv_iconst (v := (nI 1)) hx hb dX2_know_9 (by decide +kernel) ?_
    refine va_put (D := D) (ci := 2) (v := .int (nI 1)) (ty := .boolean) (C := RX2) (T := TX2) (N := 10) hx hb hts in_X2 tyX2 tyX2_ok nmX2 hown hKK.1 hP hD hS 0 rfl rfl 9 (by decide) (hts _ q191) (fun _ h9 => h9) rfl (by decide +kernel) rfl rfl (Nat.le_of_ble_eq_true rfl) dX2_know_10 (fun H locs hP hD hS => ?_)
    have hP : va_P D vwCl [(ay, .inr (2, [.ref bt, .ref be, .ref bf, .ref bl, .ref b1, .ref b2, .int (nI g.1), .int (nI g.2.1), .ref bq, .int (nI 1)])), (bt, .inl (cI, 2000, .inl tk)), (be, .inl (cI, 2000, .inl fe)), (bf, .inl (cB, 6000, .inl fi)), (bl, .inl (cB, 6000, .inl la)), (b1, .inl (cB, 3, .inl f1)), (b2, .inl (cB, 3, .inl l1)), (bq, .inl (cI, 2001, .inl sp))] H := hP
    have hD : va_D A [(ay, .inr (2, [.ref bt, .ref be, .ref bf, .ref bl, .ref b1, .ref b2, .int (nI g.1), .int (nI g.2.1), .ref bq, .int (nI 1)])), (bt, .inl (cI, 2000, .inl tk)), (be, .inl (cI, 2000, .inl fe)), (bf, .inl (cB, 6000, .inl fi)), (bl, .inl (cB, 6000, .inl la)), (b1, .inl (cB, 3, .inl f1)), (b2, .inl (cB, 3, .inl l1)), (bq, .inl (cI, 2001, .inl sp))] := hD
    refine lv_iconst (v := (nI 0)) hx hb dX2_know_13 (by decide +kernel) ?_
    refine lv_istore_n (lv' := [(1, .int (nI 0)), (0, .ref ay)]) hx hb dX2_know_14 rfl hl (by decide) rfl (fun ls hl => ?_)
    have ex : ∀ (sp : Nat → Int32) (H : Heap) (locs : List Loc) (ls : Array Slot), (∀ k, k ≤ g.1 → sp k = nI (sr_spd g k)) → va_P D vwCl [(ay, .inr (2, [.ref bt, .ref be, .ref bf, .ref bl, .ref b1, .ref b2, .int (nI g.1), .int (nI g.2.1), .ref bq, .int (nI 1)])), (bt, .inl (cI, 2000, .inl tk)), (be, .inl (cI, 2000, .inl fe)), (bf, .inl (cB, 6000, .inl fi)), (bl, .inl (cB, 6000, .inl la)), (b1, .inl (cB, 3, .inl f1)), (b2, .inl (cB, 3, .inl l1)), (bq, .inl (cI, 2001, .inl sp))] H → va_D A [(ay, .inr (2, [.ref bt, .ref be, .ref bf, .ref bl, .ref b1, .ref b2, .int (nI g.1), .int (nI g.2.1), .ref bq, .int (nI 1)])), (bt, .inl (cI, 2000, .inl tk)), (be, .inl (cI, 2000, .inl fe)), (bf, .inl (cB, 6000, .inl fi)), (bl, .inl (cB, 6000, .inl la)), (b1, .inl (cB, 3, .inl f1)), (b2, .inl (cB, 3, .inl l1)), (bq, .inl (cI, 2001, .inl sp))] → va_S A s.heap H locs → lv_has ls 3 [(1, .int 0), (0, .ref ay)] → W p l e (headSpec wsX2_know ({ frames := 2, cells := 0, slots := 0, locals := 70 } : Room)).room s m ([.ref ay] : List Value).toArray below meth c H locs 0 0 (MQ below (va_Qv (fun u => sr_M1 cI cB ay g u) (sr_Bw D A) A) ([.ref ay] : List Value).toArray s 0 0 A) (F0 m 42 ls []) := by
      intro sp H locs ls hsp hP hD hS hl
      refine lv_iload_n hx hb dX2_know_42 rfl (lv_at hl 0 rfl) ?_
      refine lv_if_eq (tgt := 146) hx hb dX2_know_43 (by decide) (fun c_ => ?_) (fun c_ => absurd (rfl) c_)
      exact W.vret hx hb hr (fun t ht hW => ⟨⟨_, rfl, ⟨bt, be, bf, bl, b1, b2, bq, tk, fe, fi, la, f1, l1, sp, rfl, ⟨i1, i2, i3, i4, i5, i6, Or.inr ⟨rfl, hsp⟩⟩, hsp⟩, by rw [ht]; exact hP, hD⟩, hS.F ht⟩) hS.2.2 dX2_know_146
    have turn : ∀ (b9 : Nat → Nat) (sp : Nat → Int32) (H : Heap) (locs : List Loc) (ls : Array Slot), (∀ k, k ≤ g.1 → b9 k ≤ 99999) → (∀ k, k ≤ g.1 → sp k = nI (b9 k)) → va_P D vwCl [(ay, .inr (2, [.ref bt, .ref be, .ref bf, .ref bl, .ref b1, .ref b2, .int (nI g.1), .int (nI g.2.1), .ref bq, .int (nI 1)])), (bt, .inl (cI, 2000, .inl tk)), (be, .inl (cI, 2000, .inl fe)), (bf, .inl (cB, 6000, .inl fi)), (bl, .inl (cB, 6000, .inl la)), (b1, .inl (cB, 3, .inl f1)), (b2, .inl (cB, 3, .inl l1)), (bq, .inl (cI, 2001, .inl sp))] H → va_D A [(ay, .inr (2, [.ref bt, .ref be, .ref bf, .ref bl, .ref b1, .ref b2, .int (nI g.1), .int (nI g.2.1), .ref bq, .int (nI 1)])), (bt, .inl (cI, 2000, .inl tk)), (be, .inl (cI, 2000, .inl fe)), (bf, .inl (cB, 6000, .inl fi)), (bl, .inl (cB, 6000, .inl la)), (b1, .inl (cB, 3, .inl f1)), (b2, .inl (cB, 3, .inl l1)), (bq, .inl (cI, 2001, .inl sp))] → va_S A s.heap H locs → lv_has ls 3 [(0, .ref ay)] → (∀ (mo : Int32) (sp : Nat → Int32) (H : Heap) (locs : List Loc) (ls : Array Slot), (mo = 0 ∨ mo = 1) → (mo = 0 ∨ (∃ c9, c9 < g.1 ∧ sr_re g.2.1 ((sr_fw g.2.1 g.2.2.2.2 b9) c9) (g.2.2.2.2 c9).1 < b9 (c9 + 1)) ∨ (∃ c9, c9 < g.1 ∧ sr_re g.2.1 ((sr_bw g.2.1 g.2.2.2.2 g.1 (sr_fw g.2.1 g.2.2.2.2 b9)) (c9 + 1)) (g.2.2.2.2 c9).1 < (sr_fw g.2.1 g.2.2.2.2 b9) c9)) → (∀ k, k ≤ g.1 → sp k = nI ((sr_bw g.2.1 g.2.2.2.2 g.1 (sr_fw g.2.1 g.2.2.2.2 b9)) k)) → va_P D vwCl [(ay, .inr (2, [.ref bt, .ref be, .ref bf, .ref bl, .ref b1, .ref b2, .int (nI g.1), .int (nI g.2.1), .ref bq, .int (nI 1)])), (bt, .inl (cI, 2000, .inl tk)), (be, .inl (cI, 2000, .inl fe)), (bf, .inl (cB, 6000, .inl fi)), (bl, .inl (cB, 6000, .inl la)), (b1, .inl (cB, 3, .inl f1)), (b2, .inl (cB, 3, .inl l1)), (bq, .inl (cI, 2001, .inl sp))] H → va_D A [(ay, .inr (2, [.ref bt, .ref be, .ref bf, .ref bl, .ref b1, .ref b2, .int (nI g.1), .int (nI g.2.1), .ref bq, .int (nI 1)])), (bt, .inl (cI, 2000, .inl tk)), (be, .inl (cI, 2000, .inl fe)), (bf, .inl (cB, 6000, .inl fi)), (bl, .inl (cB, 6000, .inl la)), (b1, .inl (cB, 3, .inl f1)), (b2, .inl (cB, 3, .inl l1)), (bq, .inl (cI, 2001, .inl sp))] → va_S A s.heap H locs → lv_has ls 3 [(1, .int mo), (0, .ref ay)] → W p l e (headSpec wsX2_know ({ frames := 2, cells := 0, slots := 0, locals := 70 } : Room)).room s m ([.ref ay] : List Value).toArray below meth c H locs 0 0 (MQ below (va_Qv (fun u => sr_M1 cI cB ay g u) (sr_Bw D A) A) ([.ref ay] : List Value).toArray s 0 0 A) (F0 m 42 ls [])) → W p l e (headSpec wsX2_know ({ frames := 2, cells := 0, slots := 0, locals := 70 } : Room)).room s m ([.ref ay] : List Value).toArray below meth c H locs 0 0 (MQ below (va_Qv (fun u => sr_M1 cI cB ay g u) (sr_Bw D A) A) ([.ref ay] : List Value).toArray s 0 0 A) (F0 m 46 ls []) := by
      intro b9 sp H locs ls hb9 hsp hP hD hS hl kk
      have hfle : ∀ k, k ≤ g.1 → (sr_fw g.2.1 g.2.2.2.2 b9) k ≤ 99999 := fun k hk => Nat.le_trans (sr_fw_le _ _ _ k) (hb9 k hk)
      have hble : ∀ k, k ≤ g.1 → (sr_bw g.2.1 g.2.2.2.2 g.1 (sr_fw g.2.1 g.2.2.2.2 b9)) k ≤ 99999 := fun k hk => Nat.le_trans (sr_bw_le _ _ _ _ hk) (hfle k hk)
      have bk : ∀ (c9 : Nat) (mo : Int32) (sp : Nat → Int32) (H : Heap) (locs : List Loc) (ls : Array Slot), c9 ≤ g.1 → (mo = 0 ∨ mo = 1) → (mo = 0 ∨ (∃ c9, c9 < g.1 ∧ sr_re g.2.1 ((sr_fw g.2.1 g.2.2.2.2 b9) c9) (g.2.2.2.2 c9).1 < b9 (c9 + 1)) ∨ (∃ c9, c9 < g.1 ∧ sr_re g.2.1 ((sr_bw g.2.1 g.2.2.2.2 g.1 (sr_fw g.2.1 g.2.2.2.2 b9)) (c9 + 1)) (g.2.2.2.2 c9).1 < (sr_fw g.2.1 g.2.2.2.2 b9) c9)) → (∀ k, c9 ≤ k → k ≤ g.1 → sp k = nI ((sr_bw g.2.1 g.2.2.2.2 g.1 (sr_fw g.2.1 g.2.2.2.2 b9)) k)) → (∀ k, k < c9 → sp k = nI ((sr_fw g.2.1 g.2.2.2.2 b9) k)) → va_P D vwCl [(ay, .inr (2, [.ref bt, .ref be, .ref bf, .ref bl, .ref b1, .ref b2, .int (nI g.1), .int (nI g.2.1), .ref bq, .int (nI 1)])), (bt, .inl (cI, 2000, .inl tk)), (be, .inl (cI, 2000, .inl fe)), (bf, .inl (cB, 6000, .inl fi)), (bl, .inl (cB, 6000, .inl la)), (b1, .inl (cB, 3, .inl f1)), (b2, .inl (cB, 3, .inl l1)), (bq, .inl (cI, 2001, .inl sp))] H → va_D A [(ay, .inr (2, [.ref bt, .ref be, .ref bf, .ref bl, .ref b1, .ref b2, .int (nI g.1), .int (nI g.2.1), .ref bq, .int (nI 1)])), (bt, .inl (cI, 2000, .inl tk)), (be, .inl (cI, 2000, .inl fe)), (bf, .inl (cB, 6000, .inl fi)), (bl, .inl (cB, 6000, .inl la)), (b1, .inl (cB, 3, .inl f1)), (b2, .inl (cB, 3, .inl l1)), (bq, .inl (cI, 2001, .inl sp))] → va_S A s.heap H locs → lv_has ls 3 [(2, .int (nI c9)), (1, .int mo), (0, .ref ay)] → W p l e (headSpec wsX2_know ({ frames := 2, cells := 0, slots := 0, locals := 70 } : Room)).room s m ([.ref ay] : List Value).toArray below meth c H locs 0 0 (MQ below (va_Qv (fun u => sr_M1 cI cB ay g u) (sr_Bw D A) A) ([.ref ay] : List Value).toArray s 0 0 A) (F0 m 100 ls []) := by
        intro c9
        induction c9 with
        | zero =>
          intro mo sp H locs ls hc hmo hun ha hb0 hP hD hS hl
          refine lv_iload_n hx hb dX2_know_100 rfl (lv_at hl 0 rfl) ?_
          refine lv_if_le (tgt := 143) hx hb dX2_know_101 (by decide) (fun c_ => ?_) (fun c_ => absurd (by decide +kernel) c_)
          refine lv_goto (tgt := 42) hx hb dX2_know_143 (by decide) ?_
          exact kk mo sp H locs ls hmo hun (fun k hk => ha k (Nat.zero_le _) hk) hP hD hS (lv_sub hl [1, 2] rfl)
        | succ c9 ih =>
          intro mo sp H locs ls hc hmo hun ha hb0 hP hD hS hl
          have hpred : nI (c9 + 1) - nI 1 = nI c9 := by rw [sr_minus, pk_m1]
          have hv9 := hble (c9 + 1) hc
          have hm9 := hgm c9 (by omega)
          have hr9 := sr_re_lt hga hv9 hm9.2.1
          have hbw := sr_bw_at g.2.1 g.2.2.2.2 g.1 (sr_fw g.2.1 g.2.2.2.2 b9) (show c9 < g.1 by omega)
          have hPr := hP.sub (ws' := [(ay, .inr (2, [.ref bt, .ref be, .ref bf, .ref bl, .ref b1, .ref b2, .int (nI g.1), .int (nI g.2.1), .ref bq, .int (nI 1)])), (bt, .inl (cI, 2000, .inl tk))]) [0, 1] rfl
          have fin : ∀ (mo' : Int32) (sp' : Nat → Int32) (H : Heap) (locs : List Loc) (ls : Array Slot), (mo' = 0 ∨ mo' = 1) → (mo' = 0 ∨ ((∃ c9, c9 < g.1 ∧ sr_re g.2.1 ((sr_fw g.2.1 g.2.2.2.2 b9) c9) (g.2.2.2.2 c9).1 < b9 (c9 + 1)) ∨ (∃ c9, c9 < g.1 ∧ sr_re g.2.1 ((sr_bw g.2.1 g.2.2.2.2 g.1 (sr_fw g.2.1 g.2.2.2.2 b9)) (c9 + 1)) (g.2.2.2.2 c9).1 < (sr_fw g.2.1 g.2.2.2.2 b9) c9)) ∨ (sr_re g.2.1 ((sr_bw g.2.1 g.2.2.2.2 g.1 (sr_fw g.2.1 g.2.2.2.2 b9)) (c9 + 1)) (g.2.2.2.2 c9).1) < (sr_fw g.2.1 g.2.2.2.2 b9) c9) → (((sr_fw g.2.1 g.2.2.2.2 b9) c9 ≤ (sr_re g.2.1 ((sr_bw g.2.1 g.2.2.2.2 g.1 (sr_fw g.2.1 g.2.2.2.2 b9)) (c9 + 1)) (g.2.2.2.2 c9).1) ∧ sp' = sp) ∨ ((sr_re g.2.1 ((sr_bw g.2.1 g.2.2.2.2 g.1 (sr_fw g.2.1 g.2.2.2.2 b9)) (c9 + 1)) (g.2.2.2.2 c9).1) < (sr_fw g.2.1 g.2.2.2.2 b9) c9 ∧ sp' = upd sp c9 (nI (sr_re g.2.1 ((sr_bw g.2.1 g.2.2.2.2 g.1 (sr_fw g.2.1 g.2.2.2.2 b9)) (c9 + 1)) (g.2.2.2.2 c9).1)))) → va_P D vwCl [(ay, .inr (2, [.ref bt, .ref be, .ref bf, .ref bl, .ref b1, .ref b2, .int (nI g.1), .int (nI g.2.1), .ref bq, .int (nI 1)])), (bt, .inl (cI, 2000, .inl tk)), (be, .inl (cI, 2000, .inl fe)), (bf, .inl (cB, 6000, .inl fi)), (bl, .inl (cB, 6000, .inl la)), (b1, .inl (cB, 3, .inl f1)), (b2, .inl (cB, 3, .inl l1)), (bq, .inl (cI, 2001, .inl sp'))] H → va_D A [(ay, .inr (2, [.ref bt, .ref be, .ref bf, .ref bl, .ref b1, .ref b2, .int (nI g.1), .int (nI g.2.1), .ref bq, .int (nI 1)])), (bt, .inl (cI, 2000, .inl tk)), (be, .inl (cI, 2000, .inl fe)), (bf, .inl (cB, 6000, .inl fi)), (bl, .inl (cB, 6000, .inl la)), (b1, .inl (cB, 3, .inl f1)), (b2, .inl (cB, 3, .inl l1)), (bq, .inl (cI, 2001, .inl sp'))] → va_S A s.heap H locs → lv_has ls 3 [(2, .int (nI (c9 + 1))), (1, .int mo), (0, .ref ay)] → W p l e (headSpec wsX2_know ({ frames := 2, cells := 0, slots := 0, locals := 70 } : Room)).room s m ([.ref ay] : List Value).toArray below meth c H locs 0 0 (MQ below (va_Qv (fun u => sr_M1 cI cB ay g u) (sr_Bw D A) A) ([.ref ay] : List Value).toArray s 0 0 A) (F0 m 136 ls [.int mo']) := by
            intro mo' sp' H locs ls hmo' hun' hsp' hP hD hS hl
            refine lv_istore_n (lv' := [(1, .int mo'), (2, .int (nI (c9 + 1))), (0, .ref ay)]) hx hb dX2_know_136 rfl hl (by decide) rfl (fun ls hl => ?_)
            refine lv_iinc (v := (nI c9)) (lv' := [(2, .int (nI c9)), (1, .int mo'), (0, .ref ay)]) hx hb dX2_know_137 hl (k := 1) rfl (pk_m1 c9) (by decide) rfl (fun ls hl => ?_)
            refine lv_goto (tgt := 100) hx hb dX2_know_140 (by decide) ?_
            have hnew : sp' c9 = nI ((sr_bw g.2.1 g.2.2.2.2 g.1 (sr_fw g.2.1 g.2.2.2.2 b9)) c9) ∧ ∀ k, k ≠ c9 → sp' k = sp k := by
              rcases hsp' with ⟨q1, rfl⟩ | ⟨q1, rfl⟩
              · exact ⟨by rw [hbw, Nat.min_eq_left q1]; exact hb0 c9 (by omega), fun _ _ => rfl⟩
              · exact ⟨by rw [pk_us, hbw, Nat.min_eq_right (Nat.le_of_lt q1)], fun k hk => pk_un hk⟩
            refine ih mo' sp' H locs ls (by omega) hmo' (hun'.imp id (fun h => h.elim id (fun q => Or.inr ⟨c9, by omega, q⟩))) (fun k h1 h2 => ?_) (fun k h1 => ?_) hP hD hS (lv_sub hl [0, 1, 2] rfl)
            · by_cases q : k = c9
              · rw [q]; exact hnew.1
              · rw [hnew.2 k q]; exact ha k (by omega) h2
            · rw [hnew.2 k (by omega)]; exact hb0 k (by omega)
          refine lv_iload_n hx hb dX2_know_100 rfl (lv_at hl 0 rfl) ?_
          refine lv_if_le (tgt := 143) hx hb dX2_know_101 (by decide) (fun c_ => absurd c_ (nI_nle (by omega) (by omega))) (fun c_ => ?_)
          refine lv_aload_n hx hb dX2_know_104 rfl (lv_at hl 2 rfl) ?_
          refine lv_iload_n hx hb dX2_know_105 rfl (lv_at hl 0 rfl) ?_
          refine lv_iconst (v := (nI 1)) hx hb dX2_know_106 (by decide +kernel) ?_
          refine lv_isub hx hb dX2_know_107 ?_
          refine sr_ti (y := (nI c9)) (hpred) ?_
          refine lv_aload_n hx hb dX2_know_108 rfl (lv_at hl 2 rfl) ?_
          refine lv_aload_n hx hb dX2_know_109 rfl (lv_at hl 2 rfl) ?_
          refine va_get (D := D) (ci := 2) (v := .ref bq) (C := RX2) (T := TX2) (N := 10) hx hb hts in_X2 hown hKK.1 hP 0 rfl rfl 8 (by decide) (hts _ q190) (fun _ h9 => h9) rfl dX2_know_110 ?_
          refine lv_iload_n hx hb dX2_know_113 rfl (lv_at hl 0 rfl) ?_
          refine va_iald hx hb hKK.1 hP 7 0 rfl rfl (vp_in_nI (by omega) (by omega)) dX2_know_114 ?_
          refine sr_ti (y := (nI ((sr_bw g.2.1 g.2.2.2.2 g.1 (sr_fw g.2.1 g.2.2.2.2 b9)) (c9 + 1)))) (by rw [nI_clamp (by omega)]; exact ha (c9 + 1) (Nat.le_refl _) hc) ?_
          refine lv_iload_n hx hb dX2_know_115 rfl (lv_at hl 0 rfl) ?_
          refine lv_iconst (v := (nI 1)) hx hb dX2_know_116 (by decide +kernel) ?_
          refine lv_isub hx hb dX2_know_117 ?_
          refine sr_ti (y := (nI c9)) (hpred) ?_
          refine vp_callSi (W.runV (As := [.int (nI ((sr_bw g.2.1 g.2.2.2.2 g.1 (sr_fw g.2.1 g.2.2.2.2 b9)) (c9 + 1))), .int (nI c9)]) (rest := [.int (nI c9), .ref ay]) ⟨hx, hb, hml, hown, hts⟩ (sr_X2_reach l D cI cB cM ay bt (.ref be) (.ref bf) (.ref bl) (.ref b1) (.ref b2) (.int (nI g.1)) (.ref bq) (.int (nI 1)) tk g.2.1 ((sr_bw g.2.1 g.2.2.2.2 g.1 (sr_fw g.2.1 g.2.2.2.2 b9)) (c9 + 1)) c9 (g.2.2.2.2 c9).1 (by omega) (i1 c9 (by omega)) hga hv9 hm9.2.1) (cwV 2 hts (lw_V q257 q259 qs4 q10 q260) rfl rfl rfl (by decide +kernel) ⟨Nat.le_of_ble_eq_true rfl, Nat.le_of_ble_eq_true rfl⟩) (sr_preV hKK hPr (va_recv hKK.1 hPr (ci := 2) (q0 := 0) rfl rfl)) rfl rfl hl.1 rfl (lv_room (Nat.le_of_ble_eq_true rfl)) dX2_know_118 ⟨Nat.le_of_ble_eq_true rfl, Nat.le_of_ble_eq_true rfl⟩) (fun r1 hr1 => ?_)
          have hr1 := hr1.symm
          subst hr1
          have hF := sr_fW hD hS hA
          refine va_calli (va_runV (As := [.int (nI c9), .int (nI (sr_re g.2.1 ((sr_bw g.2.1 g.2.2.2.2 g.1 (sr_fw g.2.1 g.2.2.2.2 b9)) (c9 + 1)) (g.2.2.2.2 c9).1))]) (rest := []) ⟨hx, hb, hml, hown, hts⟩ (sr_X2_lowered l D cI cB cM ay bt be bf bl b1 b2 bq H.size (.ref bt) (.ref be) (.ref bf) (.ref bl) (.ref b1) (.ref b2) (.int (nI g.1)) (.int (nI g.2.1)) (.int (nI 1)) tk fe fi la f1 l1 sp (hD.weaken (fun _ _ _ _ => trivial)) c9 (sr_re g.2.1 ((sr_bw g.2.1 g.2.2.2.2 g.1 (sr_fw g.2.1 g.2.2.2.2 b9)) (c9 + 1)) (g.2.2.2.2 c9).1) ((sr_fw g.2.1 g.2.2.2.2 b9) c9) (by omega) (by omega) (hfle c9 (by omega)) (hb0 c9 (by omega))) (cwV 2 hts (lw_V q266 q268 qs5 q10 q269) rfl rfl rfl (by decide +kernel) ⟨Nat.le_of_ble_eq_true rfl, Nat.le_of_ble_eq_true rfl⟩) (sr_preV hKK ⟨rfl, hP⟩ (va_recv hKK.1 hP (ci := 2) (q0 := 0) rfl rfl)) rfl rfl hl.1 rfl (lv_room (Nat.le_of_ble_eq_true rfl)) dX2_know_121 ⟨Nat.le_of_ble_eq_true rfl, Nat.le_of_ble_eq_true rfl⟩) hS (fun q _ h => hF q h) hF (fun r u t H1 locs ht hvm hw1 hB hz1 hk1 hS => ?_)
          obtain ⟨hP1, hD1⟩ := hB
          rw [ht] at hP1
          have hD1 := hD1.weaken (B := A) (fun k q _ h => hF q.1 h)
          generalize H1 = H at hP1 hS ⊢
          rcases hw1 with ⟨hle, rfl, rfl⟩ | ⟨hlt, rfl, rfl⟩
          · refine lv_if_ne (tgt := 131) hx hb dX2_know_124 (by decide) (fun c_ => absurd (rfl) c_) (fun c_ => ?_)
            refine lv_iload_n hx hb dX2_know_127 rfl (lv_at hl 1 rfl) ?_
            rcases hmo with rfl | rfl
            · refine lv_if_eq (tgt := 135) hx hb dX2_know_128 (by decide) (fun c_ => ?_) (fun c_ => absurd (rfl) c_)
              refine lv_iconst (v := (nI 0)) hx hb dX2_know_135 (by decide +kernel) ?_
              exact fin 0 sp H locs ls (Or.inl rfl) (Or.inl rfl) (Or.inl ⟨hle, rfl⟩) hP1 hD1 hS hl
            · refine lv_if_eq (tgt := 135) hx hb dX2_know_128 (by decide) (fun c_ => absurd c_ (by decide)) (fun c_ => ?_)
              refine lv_iconst (v := (nI 1)) hx hb dX2_know_131 (by decide +kernel) ?_
              refine lv_goto (tgt := 136) hx hb dX2_know_132 (by decide) ?_
              exact fin 1 sp H locs ls (Or.inr rfl) (hun.imp id Or.inl) (Or.inl ⟨hle, rfl⟩) hP1 hD1 hS hl
          · refine lv_if_ne (tgt := 131) hx hb dX2_know_124 (by decide) (fun c_ => ?_) (fun c_ => absurd c_ (by decide))
            refine lv_iconst (v := (nI 1)) hx hb dX2_know_131 (by decide +kernel) ?_
            refine lv_goto (tgt := 136) hx hb dX2_know_132 (by decide) ?_
            exact fin 1 _ H locs ls (Or.inr rfl) (Or.inr (Or.inr hlt)) (Or.inr ⟨hlt, rfl⟩) hP1 hD1 hS hl
      have fd : ∀ (n9 c9 : Nat) (mo : Int32) (sp : Nat → Int32) (H : Heap) (locs : List Loc) (ls : Array Slot), c9 ≤ g.1 → g.1 + 1 ≤ c9 + n9 → (mo = 0 ∨ mo = 1) → (mo = 0 ∨ (∃ c9, c9 < g.1 ∧ sr_re g.2.1 ((sr_fw g.2.1 g.2.2.2.2 b9) c9) (g.2.2.2.2 c9).1 < b9 (c9 + 1))) → (∀ k, k ≤ c9 → sp k = nI ((sr_fw g.2.1 g.2.2.2.2 b9) k)) → (∀ k, c9 < k → k ≤ g.1 → sp k = nI (b9 k)) → va_P D vwCl [(ay, .inr (2, [.ref bt, .ref be, .ref bf, .ref bl, .ref b1, .ref b2, .int (nI g.1), .int (nI g.2.1), .ref bq, .int (nI 1)])), (bt, .inl (cI, 2000, .inl tk)), (be, .inl (cI, 2000, .inl fe)), (bf, .inl (cB, 6000, .inl fi)), (bl, .inl (cB, 6000, .inl la)), (b1, .inl (cB, 3, .inl f1)), (b2, .inl (cB, 3, .inl l1)), (bq, .inl (cI, 2001, .inl sp))] H → va_D A [(ay, .inr (2, [.ref bt, .ref be, .ref bf, .ref bl, .ref b1, .ref b2, .int (nI g.1), .int (nI g.2.1), .ref bq, .int (nI 1)])), (bt, .inl (cI, 2000, .inl tk)), (be, .inl (cI, 2000, .inl fe)), (bf, .inl (cB, 6000, .inl fi)), (bl, .inl (cB, 6000, .inl la)), (b1, .inl (cB, 3, .inl f1)), (b2, .inl (cB, 3, .inl l1)), (bq, .inl (cI, 2001, .inl sp))] → va_S A s.heap H locs → lv_has ls 3 [(2, .int (nI c9)), (1, .int mo), (0, .ref ay)] → W p l e (headSpec wsX2_know ({ frames := 2, cells := 0, slots := 0, locals := 70 } : Room)).room s m ([.ref ay] : List Value).toArray below meth c H locs 0 0 (MQ below (va_Qv (fun u => sr_M1 cI cB ay g u) (sr_Bw D A) A) ([.ref ay] : List Value).toArray s 0 0 A) (F0 m 50 ls []) := by
        intro n9
        induction n9 with
        | zero => intro c9 mo sp H locs ls h1 h2; exact absurd h2 (by omega)
        | succ n9 ih =>
          intro c9 mo sp H locs ls hc hn hmo hun ha hb0 hP hD hS hl
          refine lv_iload_n hx hb dX2_know_50 rfl (lv_at hl 0 rfl) ?_
          refine lv_aload_n hx hb dX2_know_51 rfl (lv_at hl 2 rfl) ?_
          refine va_get (D := D) (ci := 2) (v := .int (nI g.1)) (C := RX2) (T := TX2) (N := 10) hx hb hts in_X2 hown hKK.1 hP 0 rfl rfl 6 (by decide) (hts _ q188) (fun _ h9 => h9) rfl dX2_know_52 ?_
          refine lv_icmp_ge (tgt := 95) hx hb dX2_know_55 (by decide) (fun c5 => ?_) (fun c5 => ?_)
          · have hcg : c9 = g.1 := by have := (nI_leI (by omega) (by omega)).mp c5; omega
            refine lv_aload_n hx hb dX2_know_95 rfl (lv_at hl 2 rfl) ?_
            refine va_get (D := D) (ci := 2) (v := .int (nI g.1)) (C := RX2) (T := TX2) (N := 10) hx hb hts in_X2 hown hKK.1 hP 0 rfl rfl 6 (by decide) (hts _ q188) (fun _ h9 => h9) rfl dX2_know_96 ?_
            refine lv_istore_n (lv' := [(2, .int (nI g.1)), (1, .int mo), (0, .ref ay)]) hx hb dX2_know_99 rfl hl (by decide) rfl (fun ls hl => ?_)
            refine bk g.1 mo sp H locs ls (Nat.le_refl _) hmo (hun.imp id Or.inl) (fun k h1 h2 => ?_) (fun k h1 => ha k (by omega)) hP hD hS (lv_sub hl [0, 1, 2] rfl)
            rw [show k = g.1 by omega, sr_bw_end]; exact ha g.1 (by omega)
          · have hcl : c9 < g.1 := Nat.lt_of_not_le (fun h => c5 (nI_le h (by omega)))
            have hv9 := hfle c9 hc
            have hm9 := hgm c9 hcl
            have hr9 := sr_re_lt hga hv9 hm9.2.1
            have hfw : (sr_fw g.2.1 g.2.2.2.2 b9) (c9 + 1) = min (b9 (c9 + 1)) (sr_re g.2.1 ((sr_fw g.2.1 g.2.2.2.2 b9) c9) (g.2.2.2.2 c9).1) := rfl
            have hPr := hP.sub (ws' := [(ay, .inr (2, [.ref bt, .ref be, .ref bf, .ref bl, .ref b1, .ref b2, .int (nI g.1), .int (nI g.2.1), .ref bq, .int (nI 1)])), (bt, .inl (cI, 2000, .inl tk))]) [0, 1] rfl
            have fin : ∀ (mo' : Int32) (sp' : Nat → Int32) (H : Heap) (locs : List Loc) (ls : Array Slot), (mo' = 0 ∨ mo' = 1) → (mo' = 0 ∨ (∃ c9, c9 < g.1 ∧ sr_re g.2.1 ((sr_fw g.2.1 g.2.2.2.2 b9) c9) (g.2.2.2.2 c9).1 < b9 (c9 + 1)) ∨ (sr_re g.2.1 ((sr_fw g.2.1 g.2.2.2.2 b9) c9) (g.2.2.2.2 c9).1) < b9 (c9 + 1)) → ((b9 (c9 + 1) ≤ (sr_re g.2.1 ((sr_fw g.2.1 g.2.2.2.2 b9) c9) (g.2.2.2.2 c9).1) ∧ sp' = sp) ∨ ((sr_re g.2.1 ((sr_fw g.2.1 g.2.2.2.2 b9) c9) (g.2.2.2.2 c9).1) < b9 (c9 + 1) ∧ sp' = upd sp (c9 + 1) (nI (sr_re g.2.1 ((sr_fw g.2.1 g.2.2.2.2 b9) c9) (g.2.2.2.2 c9).1)))) → va_P D vwCl [(ay, .inr (2, [.ref bt, .ref be, .ref bf, .ref bl, .ref b1, .ref b2, .int (nI g.1), .int (nI g.2.1), .ref bq, .int (nI 1)])), (bt, .inl (cI, 2000, .inl tk)), (be, .inl (cI, 2000, .inl fe)), (bf, .inl (cB, 6000, .inl fi)), (bl, .inl (cB, 6000, .inl la)), (b1, .inl (cB, 3, .inl f1)), (b2, .inl (cB, 3, .inl l1)), (bq, .inl (cI, 2001, .inl sp'))] H → va_D A [(ay, .inr (2, [.ref bt, .ref be, .ref bf, .ref bl, .ref b1, .ref b2, .int (nI g.1), .int (nI g.2.1), .ref bq, .int (nI 1)])), (bt, .inl (cI, 2000, .inl tk)), (be, .inl (cI, 2000, .inl fe)), (bf, .inl (cB, 6000, .inl fi)), (bl, .inl (cB, 6000, .inl la)), (b1, .inl (cB, 3, .inl f1)), (b2, .inl (cB, 3, .inl l1)), (bq, .inl (cI, 2001, .inl sp'))] → va_S A s.heap H locs → lv_has ls 3 [(2, .int (nI c9)), (1, .int mo), (0, .ref ay)] → W p l e (headSpec wsX2_know ({ frames := 2, cells := 0, slots := 0, locals := 70 } : Room)).room s m ([.ref ay] : List Value).toArray below meth c H locs 0 0 (MQ below (va_Qv (fun u => sr_M1 cI cB ay g u) (sr_Bw D A) A) ([.ref ay] : List Value).toArray s 0 0 A) (F0 m 88 ls [.int mo']) := by
              intro mo' sp' H locs ls hmo' hun' hsp' hP hD hS hl
              refine lv_istore_n (lv' := [(1, .int mo'), (2, .int (nI c9)), (0, .ref ay)]) hx hb dX2_know_88 rfl hl (by decide) rfl (fun ls hl => ?_)
              refine lv_iinc (v := (nI (c9 + 1))) (lv' := [(2, .int (nI (c9 + 1))), (1, .int mo'), (0, .ref ay)]) hx hb dX2_know_89 hl (k := 1) rfl (nI_1 c9) (by decide) rfl (fun ls hl => ?_)
              refine lv_goto (tgt := 50) hx hb dX2_know_92 (by decide) ?_
              have hnew : sp' (c9 + 1) = nI ((sr_fw g.2.1 g.2.2.2.2 b9) (c9 + 1)) ∧ ∀ k, k ≠ c9 + 1 → sp' k = sp k := by
                rcases hsp' with ⟨q1, rfl⟩ | ⟨q1, rfl⟩
                · exact ⟨by rw [hfw, Nat.min_eq_left q1]; exact hb0 (c9 + 1) (by omega) (by omega), fun _ _ => rfl⟩
                · exact ⟨by rw [pk_us, hfw, Nat.min_eq_right (Nat.le_of_lt q1)], fun k hk => pk_un hk⟩
              refine ih (c9 + 1) mo' sp' H locs ls (by omega) (by omega) hmo' (hun'.imp id (fun h => h.elim id (fun q => ⟨c9, hcl, q⟩))) (fun k h1 => ?_) (fun k h1 h2 => ?_) hP hD hS (lv_sub hl [0, 1, 2] rfl)
              · by_cases q : k = c9 + 1
                · rw [q]; exact hnew.1
                · rw [hnew.2 k q]; exact ha k (by omega)
              · rw [hnew.2 k (by omega)]; exact hb0 k (by omega) h2
            refine lv_aload_n hx hb dX2_know_58 rfl (lv_at hl 2 rfl) ?_
            refine lv_iload_n hx hb dX2_know_59 rfl (lv_at hl 0 rfl) ?_
            refine lv_iconst (v := (nI 1)) hx hb dX2_know_60 (by decide +kernel) ?_
            refine lv_iadd hx hb dX2_know_61 ?_
            refine sr_ti (y := (nI (c9 + 1))) (nI_1 c9) ?_
            refine lv_aload_n hx hb dX2_know_62 rfl (lv_at hl 2 rfl) ?_
            refine lv_aload_n hx hb dX2_know_63 rfl (lv_at hl 2 rfl) ?_
            refine va_get (D := D) (ci := 2) (v := .ref bq) (C := RX2) (T := TX2) (N := 10) hx hb hts in_X2 hown hKK.1 hP 0 rfl rfl 8 (by decide) (hts _ q190) (fun _ h9 => h9) rfl dX2_know_64 ?_
            refine lv_iload_n hx hb dX2_know_67 rfl (lv_at hl 0 rfl) ?_
            refine va_iald hx hb hKK.1 hP 7 0 rfl rfl (vp_in_nI (by omega) (by omega)) dX2_know_68 ?_
            refine sr_ti (y := (nI ((sr_fw g.2.1 g.2.2.2.2 b9) c9))) (by rw [nI_clamp (by omega)]; exact ha c9 (Nat.le_refl _)) ?_
            refine lv_iload_n hx hb dX2_know_69 rfl (lv_at hl 0 rfl) ?_
            refine vp_callSi (W.runV (As := [.int (nI ((sr_fw g.2.1 g.2.2.2.2 b9) c9)), .int (nI c9)]) (rest := [.int (nI (c9 + 1)), .ref ay]) ⟨hx, hb, hml, hown, hts⟩ (sr_X2_reach l D cI cB cM ay bt (.ref be) (.ref bf) (.ref bl) (.ref b1) (.ref b2) (.int (nI g.1)) (.ref bq) (.int (nI 1)) tk g.2.1 ((sr_fw g.2.1 g.2.2.2.2 b9) c9) c9 (g.2.2.2.2 c9).1 (by omega) (i1 c9 hcl) hga hv9 hm9.2.1) (cwV 2 hts (lw_V q257 q259 qs4 q10 q260) rfl rfl rfl (by decide +kernel) ⟨Nat.le_of_ble_eq_true rfl, Nat.le_of_ble_eq_true rfl⟩) (sr_preV hKK hPr (va_recv hKK.1 hPr (ci := 2) (q0 := 0) rfl rfl)) rfl rfl hl.1 rfl (lv_room (Nat.le_of_ble_eq_true rfl)) dX2_know_70 ⟨Nat.le_of_ble_eq_true rfl, Nat.le_of_ble_eq_true rfl⟩) (fun r1 hr1 => ?_)
            have hr1 := hr1.symm
            subst hr1
            have hF := sr_fW hD hS hA
            refine va_calli (va_runV (As := [.int (nI (c9 + 1)), .int (nI (sr_re g.2.1 ((sr_fw g.2.1 g.2.2.2.2 b9) c9) (g.2.2.2.2 c9).1))]) (rest := []) ⟨hx, hb, hml, hown, hts⟩ (sr_X2_lowered l D cI cB cM ay bt be bf bl b1 b2 bq H.size (.ref bt) (.ref be) (.ref bf) (.ref bl) (.ref b1) (.ref b2) (.int (nI g.1)) (.int (nI g.2.1)) (.int (nI 1)) tk fe fi la f1 l1 sp (hD.weaken (fun _ _ _ _ => trivial)) (c9 + 1) (sr_re g.2.1 ((sr_fw g.2.1 g.2.2.2.2 b9) c9) (g.2.2.2.2 c9).1) (b9 (c9 + 1)) (by omega) (by omega) (hb9 (c9 + 1) (by omega)) (hb0 (c9 + 1) (by omega) (by omega))) (cwV 2 hts (lw_V q266 q268 qs5 q10 q269) rfl rfl rfl (by decide +kernel) ⟨Nat.le_of_ble_eq_true rfl, Nat.le_of_ble_eq_true rfl⟩) (sr_preV hKK ⟨rfl, hP⟩ (va_recv hKK.1 hP (ci := 2) (q0 := 0) rfl rfl)) rfl rfl hl.1 rfl (lv_room (Nat.le_of_ble_eq_true rfl)) dX2_know_73 ⟨Nat.le_of_ble_eq_true rfl, Nat.le_of_ble_eq_true rfl⟩) hS (fun q _ h => hF q h) hF (fun r u t H1 locs ht hvm hw1 hB hz1 hk1 hS => ?_)
            obtain ⟨hP1, hD1⟩ := hB
            rw [ht] at hP1
            have hD1 := hD1.weaken (B := A) (fun k q _ h => hF q.1 h)
            generalize H1 = H at hP1 hS ⊢
            rcases hw1 with ⟨hle, rfl, rfl⟩ | ⟨hlt, rfl, rfl⟩
            · refine lv_if_ne (tgt := 83) hx hb dX2_know_76 (by decide) (fun c_ => absurd (rfl) c_) (fun c_ => ?_)
              refine lv_iload_n hx hb dX2_know_79 rfl (lv_at hl 1 rfl) ?_
              rcases hmo with rfl | rfl
              · refine lv_if_eq (tgt := 87) hx hb dX2_know_80 (by decide) (fun c_ => ?_) (fun c_ => absurd (rfl) c_)
                refine lv_iconst (v := (nI 0)) hx hb dX2_know_87 (by decide +kernel) ?_
                exact fin 0 sp H locs ls (Or.inl rfl) (Or.inl rfl) (Or.inl ⟨hle, rfl⟩) hP1 hD1 hS hl
              · refine lv_if_eq (tgt := 87) hx hb dX2_know_80 (by decide) (fun c_ => absurd c_ (by decide)) (fun c_ => ?_)
                refine lv_iconst (v := (nI 1)) hx hb dX2_know_83 (by decide +kernel) ?_
                refine lv_goto (tgt := 88) hx hb dX2_know_84 (by decide) ?_
                exact fin 1 sp H locs ls (Or.inr rfl) (hun.imp id Or.inl) (Or.inl ⟨hle, rfl⟩) hP1 hD1 hS hl
            · refine lv_if_ne (tgt := 83) hx hb dX2_know_76 (by decide) (fun c_ => ?_) (fun c_ => absurd c_ (by decide))
              refine lv_iconst (v := (nI 1)) hx hb dX2_know_83 (by decide +kernel) ?_
              refine lv_goto (tgt := 88) hx hb dX2_know_84 (by decide) ?_
              exact fin 1 _ H locs ls (Or.inr rfl) (Or.inr (Or.inr hlt)) (Or.inr ⟨hlt, rfl⟩) hP1 hD1 hS hl
      refine lv_iconst (v := (nI 0)) hx hb dX2_know_46 (by decide +kernel) ?_
      refine lv_istore_n (lv' := [(1, .int (nI 0)), (0, .ref ay)]) hx hb dX2_know_47 rfl hl (by decide) rfl (fun ls hl => ?_)
      refine lv_iconst (v := (nI 0)) hx hb dX2_know_48 (by decide +kernel) ?_
      refine lv_istore_n (lv' := [(2, .int (nI 0)), (1, .int (nI 0)), (0, .ref ay)]) hx hb dX2_know_49 rfl hl (by decide) rfl (fun ls hl => ?_)
      exact fd (g.1 + 1) 0 0 sp H locs ls (Nat.zero_le _) (by omega) (Or.inl rfl) (Or.inl rfl) (fun k hk => by rw [show k = 0 by omega]; exact hsp 0 (Nat.zero_le _)) (fun k _ h2 => hsp k h2) hP hD hS (lv_sub hl [0, 1, 2] rfl)
    have lims : ∀ (n9 c9 : Nat) (sp : Nat → Int32) (H : Heap) (locs : List Loc) (ls : Array Slot), c9 ≤ g.1 + 1 → g.1 + 2 ≤ c9 + n9 → (∀ k, k < c9 → sp k = nI (sr_lim g k)) → va_P D vwCl [(ay, .inr (2, [.ref bt, .ref be, .ref bf, .ref bl, .ref b1, .ref b2, .int (nI g.1), .int (nI g.2.1), .ref bq, .int (nI 1)])), (bt, .inl (cI, 2000, .inl tk)), (be, .inl (cI, 2000, .inl fe)), (bf, .inl (cB, 6000, .inl fi)), (bl, .inl (cB, 6000, .inl la)), (b1, .inl (cB, 3, .inl f1)), (b2, .inl (cB, 3, .inl l1)), (bq, .inl (cI, 2001, .inl sp))] H → va_D A [(ay, .inr (2, [.ref bt, .ref be, .ref bf, .ref bl, .ref b1, .ref b2, .int (nI g.1), .int (nI g.2.1), .ref bq, .int (nI 1)])), (bt, .inl (cI, 2000, .inl tk)), (be, .inl (cI, 2000, .inl fe)), (bf, .inl (cB, 6000, .inl fi)), (bl, .inl (cB, 6000, .inl la)), (b1, .inl (cB, 3, .inl f1)), (b2, .inl (cB, 3, .inl l1)), (bq, .inl (cI, 2001, .inl sp))] → va_S A s.heap H locs → lv_has ls 3 [(1, .int (nI c9)), (0, .ref ay)] → W p l e (headSpec wsX2_know ({ frames := 2, cells := 0, slots := 0, locals := 70 } : Room)).room s m ([.ref ay] : List Value).toArray below meth c H locs 0 0 (MQ below (va_Qv (fun u => sr_M1 cI cB ay g u) (sr_Bw D A) A) ([.ref ay] : List Value).toArray s 0 0 A) (F0 m 15 ls []) := by
      intro n9
      induction n9 with
      | zero => intro c9 sp H locs ls h1 h2; exact absurd h2 (by omega)
      | succ n9 ih =>
        intro c9 sp H locs ls hc hn ha hP hD hS hl
        refine lv_iload_n hx hb dX2_know_15 rfl (lv_at hl 0 rfl) ?_
        refine lv_aload_n hx hb dX2_know_16 rfl (lv_at hl 1 rfl) ?_
        refine va_get (D := D) (ci := 2) (v := .int (nI g.1)) (C := RX2) (T := TX2) (N := 10) hx hb hts in_X2 hown hKK.1 hP 0 rfl rfl 6 (by decide) (hts _ q188) (fun _ h9 => h9) rfl dX2_know_17 ?_
        refine lv_icmp_gt (tgt := 40) hx hb dX2_know_20 (by decide) (fun c5 => ?_) (fun c5 => ?_)
        · have hcg : g.1 < c9 := (nI_ltI (by omega) (by omega)).mp c5
          refine lv_iconst (v := (nI 1)) hx hb dX2_know_40 (by decide +kernel) ?_
          refine lv_istore_n (lv' := [(1, .int (nI 1)), (0, .ref ay)]) hx hb dX2_know_41 rfl hl (by decide) rfl (fun ls hl => ?_)
          refine lv_iload_n hx hb dX2_know_42 rfl (lv_at hl 0 rfl) ?_
          refine lv_if_eq (tgt := 146) hx hb dX2_know_43 (by decide) (fun c_ => absurd c_ (by decide +kernel)) (fun c_ => ?_)
          refine turn (sr_lim g) sp H locs ls (fun k hk => sr_lim_le hg hk) (fun k hk => ha k (by omega)) hP hD hS (lv_sub hl [1] rfl) (fun mo sp H locs ls hmo _ hsp hP hD hS hl => ?_)
          have hsp : ∀ k, k ≤ g.1 → sp k = nI (sr_spd g k) := fun k hk => by rw [hsp k hk, sr_two g hk]
          rcases hmo with rfl | rfl
          · exact ex sp H locs ls hsp hP hD hS hl
          · refine lv_iload_n hx hb dX2_know_42 rfl (lv_at hl 0 rfl) ?_
            refine lv_if_eq (tgt := 146) hx hb dX2_know_43 (by decide) (fun c_ => absurd c_ (by decide)) (fun c_ => ?_)
            refine turn (sr_spd g) sp H locs ls (fun k hk => sr_spd_le hg hk) hsp hP hD hS (lv_sub hl [1] rfl) (fun mo sp H locs ls hmo hun hsp2 hP hD hS hl => ?_)
            have e1 : ∀ k, k ≤ g.1 → sr_bw g.2.1 g.2.2.2.2 g.1 (sr_fw g.2.1 g.2.2.2.2 (sr_spd g)) k = sr_spd g k := by
              intro k hk
              have q1 := sr_bw_cong (acc := g.2.1) (mv := g.2.2.2.2) (sr_fw_spd g) (g.1 - k) (by omega)
              have q2 := sr_bw_spd g (g.1 - k) (by omega)
              rw [show g.1 - (g.1 - k) = k by omega] at q1 q2
              exact q1.trans q2
            have e2 : mo = 0 := by
              rcases hun with q | ⟨c9, h1, h2⟩ | ⟨c9, h1, h2⟩
              · exact q
              · rw [sr_fw_spd g c9 (by omega)] at h2
                exact absurd (sr_st_f g h1) (by omega)
              · rw [sr_fw_spd g c9 (by omega), e1 (c9 + 1) (by omega)] at h2
                exact absurd (sr_st_b g h1) (by omega)
            subst e2
            exact ex sp H locs ls (fun k hk => by rw [hsp2 k hk, e1 k hk]) hP hD hS hl
        · have hcl : c9 ≤ g.1 := Nat.le_of_not_lt (fun h => c5 (nI_lt h (by omega)))
          have hPl := hP.sub (ws' := [(ay, .inr (2, [.ref bt, .ref be, .ref bf, .ref bl, .ref b1, .ref b2, .int (nI g.1), .int (nI g.2.1), .ref bq, .int (nI 1)])), (be, .inl (cI, 2000, .inl fe)), (bf, .inl (cB, 6000, .inl fi)), (bl, .inl (cB, 6000, .inl la))]) [0, 2, 3, 4] rfl
          refine lv_aload_n hx hb dX2_know_23 rfl (lv_at hl 1 rfl) ?_
          refine va_get (D := D) (ci := 2) (v := .ref bq) (C := RX2) (T := TX2) (N := 10) hx hb hts in_X2 hown hKK.1 hP 0 rfl rfl 8 (by decide) (hts _ q190) (fun _ h9 => h9) rfl dX2_know_24 ?_
          refine lv_iload_n hx hb dX2_know_27 rfl (lv_at hl 0 rfl) ?_
          refine lv_aload_n hx hb dX2_know_28 rfl (lv_at hl 1 rfl) ?_
          refine lv_iload_n hx hb dX2_know_29 rfl (lv_at hl 0 rfl) ?_
          refine vp_callSi (W.runV (As := [.int (nI c9)]) (rest := [.int (nI c9), .ref bq]) ⟨hx, hb, hml, hown, hts⟩ (sr_X2_limit l D cI cB cM ay be bf bl (.ref bt) (.ref b1) (.ref b2) (.int (nI g.2.1)) (.ref bq) (.int (nI 1)) fe fi la g hg i2 i3 i4 (nI c9)) (cwV 1 hts (lw_V q256 q243 q244 q10 q245) rfl rfl rfl (by decide +kernel) ⟨Nat.le_of_ble_eq_true rfl, Nat.le_of_ble_eq_true rfl⟩) (sr_preV hKK hPl (va_recv hKK.1 hPl (ci := 2) (q0 := 0) rfl rfl)) rfl rfl hl.1 rfl (lv_room (Nat.le_of_ble_eq_true rfl)) dX2_know_30 ⟨Nat.le_of_ble_eq_true rfl, Nat.le_of_ble_eq_true rfl⟩) (fun r1 hr1 => ?_)
          have hok : sr_bok g (nI c9) := ⟨nI_pos (by omega), nI_le hcl (by omega)⟩
          have hr1 : r1 = nI (sr_lim g c9) := by
            rcases hr1 with ⟨-, q⟩ | ⟨q, -⟩
            · rw [q, nI_clamp (by omega)]
            · exact absurd hok q
          have hr1 := hr1.symm
          subst hr1
          refine va_iast hx hb hKK.1 hP hD hS 7 0 rfl rfl (vp_in_nI (by omega) (by omega)) dX2_know_33 (fun H locs hP hD hS => ?_)
          rw [nI_clamp (show c9 < 2 ^ 31 by omega)] at hP hD
          have hP : va_P D vwCl [(ay, .inr (2, [.ref bt, .ref be, .ref bf, .ref bl, .ref b1, .ref b2, .int (nI g.1), .int (nI g.2.1), .ref bq, .int (nI 1)])), (bt, .inl (cI, 2000, .inl tk)), (be, .inl (cI, 2000, .inl fe)), (bf, .inl (cB, 6000, .inl fi)), (bl, .inl (cB, 6000, .inl la)), (b1, .inl (cB, 3, .inl f1)), (b2, .inl (cB, 3, .inl l1)), (bq, .inl (cI, 2001, .inl (upd sp c9 (nI (sr_lim g c9)))))] H := hP
          have hD : va_D A [(ay, .inr (2, [.ref bt, .ref be, .ref bf, .ref bl, .ref b1, .ref b2, .int (nI g.1), .int (nI g.2.1), .ref bq, .int (nI 1)])), (bt, .inl (cI, 2000, .inl tk)), (be, .inl (cI, 2000, .inl fe)), (bf, .inl (cB, 6000, .inl fi)), (bl, .inl (cB, 6000, .inl la)), (b1, .inl (cB, 3, .inl f1)), (b2, .inl (cB, 3, .inl l1)), (bq, .inl (cI, 2001, .inl (upd sp c9 (nI (sr_lim g c9)))))] := hD
          refine lv_iinc (v := (nI (c9 + 1))) (lv' := [(1, .int (nI (c9 + 1))), (0, .ref ay)]) hx hb dX2_know_34 hl (k := 0) rfl (nI_1 c9) (by decide) rfl (fun ls hl => ?_)
          refine lv_goto (tgt := 15) hx hb dX2_know_37 (by decide) ?_
          refine ih (c9 + 1) _ H locs ls (by omega) (by omega) (fun k hk => ?_) hP hD hS (lv_sub hl [0, 1] rfl)
          by_cases q : k = c9
          · rw [q, pk_us]
          · rw [pk_un q]; exact ha k (by omega)
    exact lims (g.1 + 2) 0 sp H locs ls (Nat.zero_le _) (by omega) (fun k hk => absurd hk (by omega)) hP hD hS (lv_sub hl [0, 1] rfl)
  · refine lv_if_eq (tgt := 8) hx hb dX2_know_4 (by decide) (fun c_ => absurd c_ (by decide)) (fun c_ => ?_)
    exact W.vret hx hb hr (fun t ht hW => ⟨⟨_, rfl, ⟨bt, be, bf, bl, b1, b2, bq, tk, fe, fi, la, f1, l1, sp, rfl, ⟨i1, i2, i3, i4, i5, i6, Or.inr ⟨rfl, i7⟩⟩, i7⟩, by rw [ht]; exact hP, hD⟩, hS.F ht⟩) hS.2.2 dX2_know_7
set_option maxHeartbeats 4000000 in
set_option maxRecDepth 100000 in
/-- speed(k) -/
theorem sr_X2_speed (l : Launch) (D : va_G) (cI cB cM : ClassId) (ay sz : Nat) (g : sr_Sg) (hg : sr_OK g) (w : va_W) (hw : sr_MR cI cB ay g w) (hD0 : va_D (fun _ => True) w) (k : Int32) : sr_CtI l D cI cB cM yX2_speed wsX2_speed ({ frames := 3, cells := 0, slots := 0, locals := 95 } : Room) [.ref ay, .int k] w sz (fun r u => sr_pSpd g k r ∧ sr_MR cI cB ay g u) 0 0 := by
  obtain ⟨bt, be, bf, bl, b1, b2, bq, tk, fe, fi, la, f1, l1, sp, kn, rfl, i1, i2, i3, i4, i5, i6, i7⟩ := hw
  refine Met.ofW (cc := cX2_speed) (maxL := 2) (ret := (some .int)) (by decide) rfl ?_
  intro p e s m args below meth c s₁ B hml hv
  obtain ⟨rfl, hKK, hsz, hP⟩ := hv
  have hx := B.exec
  have hb := B.bytes
  have hr := B.returns
  have hts := atoms_spec (ws := wsX2_speed) B.pre
  have hts : ∀ w ∈ lw_all, w.before _ s = true := fun w h => hts w (List.mem_cons_of_mem _ h)
  have hown : s.vm.findClass RX2 = some m.cls := findClass_of_methodNamed B.named
  have hlocks := B.notSynchronized
  subst hsz
  have hD := hD0.self (sz := s.heap.size)
  generalize hAe : va_A [(ay, .inr (2, [.ref bt, .ref be, .ref bf, .ref bl, .ref b1, .ref b2, .int (nI g.1), .int (nI g.2.1), .ref bq, .int kn])), (bt, .inl (cI, 2000, .inl tk)), (be, .inl (cI, 2000, .inl fe)), (bf, .inl (cB, 6000, .inl fi)), (bl, .inl (cB, 6000, .inl la)), (b1, .inl (cB, 3, .inl f1)), (b2, .inl (cB, 3, .inl l1)), (bq, .inl (cI, 2001, .inl sp))] s.heap.size = A at hD ⊢
  have hA : ∀ q : Nat, s.heap.size ≤ q → A q := fun q h => by rw [← hAe]; exact Or.inr h
  have hS : va_S A s.heap s.heap [] := va_S.rf
  have hP : va_P D vwCl [(ay, .inr (2, [.ref bt, .ref be, .ref bf, .ref bl, .ref b1, .ref b2, .int (nI g.1), .int (nI g.2.1), .ref bq, .int kn])), (bt, .inl (cI, 2000, .inl tk)), (be, .inl (cI, 2000, .inl fe)), (bf, .inl (cB, 6000, .inl fi)), (bl, .inl (cB, 6000, .inl la)), (b1, .inl (cB, 3, .inl f1)), (b2, .inl (cB, 3, .inl l1)), (bq, .inl (cI, 2001, .inl sp))] s.heap := hP
  have hl := lv_entry ([.ref ay, .int k]) (n := 2) (Nat.le_of_ble_eq_true rfl)
  rw [lg_entry_eq]
  generalize (lg_sl ([.ref ay, .int k]) ++ List.replicate (2 - (lg_sl ([.ref ay, .int k])).length) Slot.unset).toArray = ls at hl ⊢
  have hl : lv_has ls 2 [(0, .ref ay), (1, .int k)] := hl
  have hg1 := hg.1
  refine lv_aload_n hx hb dX2_speed_0 rfl (lv_at hl 0 rfl) ?_
  have hF := sr_fW hD hS hA
  refine va_callv (va_runV (As := []) (rest := []) ⟨hx, hb, hml, hown, hts⟩ (sr_X2_know l D cI cB cM ay s.heap.size g hg _ ⟨bt, be, bf, bl, b1, b2, bq, tk, fe, fi, la, f1, l1, sp, kn, rfl, i1, i2, i3, i4, i5, i6, i7⟩ (hD.weaken (fun _ _ _ _ => trivial))) (cwV 0 hts (lw_V q252 q254 qs3 q10 q255) rfl rfl rfl (by decide +kernel) ⟨Nat.le_of_ble_eq_true rfl, Nat.le_of_ble_eq_true rfl⟩) (sr_preV hKK ⟨rfl, hP⟩ (va_recv hKK.1 hP (ci := 2) (q0 := 0) rfl rfl)) rfl rfl hl.1 rfl (lv_room (Nat.le_of_ble_eq_true rfl)) dX2_speed_1 ⟨Nat.le_of_ble_eq_true rfl, Nat.le_of_ble_eq_true rfl⟩) hS (fun q _ h => hF q h) hF (fun u t H1 locs ht hvm hw1 hB hz1 hk1 hS => ?_)
  obtain ⟨hP1, hD1⟩ := hB
  rw [ht] at hP1
  have hD1 := hD1.weaken (B := A) (fun k q _ h => hF q.1 h)
  obtain ⟨bt, be, bf, bl, b1, b2, bq, tk, fe, fi, la, f1, l1, sp, rfl, ⟨i1, i2, i3, i4, i5, i6, i7⟩, hsp⟩ := hw1
  generalize H1 = H at hP1 hS ⊢
  have hP : va_P D vwCl [(ay, .inr (2, [.ref bt, .ref be, .ref bf, .ref bl, .ref b1, .ref b2, .int (nI g.1), .int (nI g.2.1), .ref bq, .int 1])), (bt, .inl (cI, 2000, .inl tk)), (be, .inl (cI, 2000, .inl fe)), (bf, .inl (cB, 6000, .inl fi)), (bl, .inl (cB, 6000, .inl la)), (b1, .inl (cB, 3, .inl f1)), (b2, .inl (cB, 3, .inl l1)), (bq, .inl (cI, 2001, .inl sp))] H := hP1
  have hD : va_D A [(ay, .inr (2, [.ref bt, .ref be, .ref bf, .ref bl, .ref b1, .ref b2, .int (nI g.1), .int (nI g.2.1), .ref bq, .int 1])), (bt, .inl (cI, 2000, .inl tk)), (be, .inl (cI, 2000, .inl fe)), (bf, .inl (cB, 6000, .inl fi)), (bl, .inl (cB, 6000, .inl la)), (b1, .inl (cB, 3, .inl f1)), (b2, .inl (cB, 3, .inl l1)), (bq, .inl (cI, 2001, .inl sp))] := hD1
  refine lv_iload_n hx hb dX2_speed_4 rfl (lv_at hl 1 rfl) ?_
  refine lv_if_lt (tgt := 16) hx hb dX2_speed_5 (by decide) (fun c1 => ?_) (fun c1 => ?_)
  · refine lv_iconst (v := (-1)) hx hb dX2_speed_16 (by decide +kernel) ?_
    refine lv_goto (tgt := 26) hx hb dX2_speed_17 (by decide) ?_
    exact W.iret hx hb hr (fun t ht hW => ⟨⟨_, _, rfl, ⟨Or.inr ⟨fun h => h.1 c1, rfl⟩, ⟨bt, be, bf, bl, b1, b2, bq, tk, fe, fi, la, f1, l1, sp, 1, rfl, i1, i2, i3, i4, i5, i6, i7⟩⟩, by rw [ht]; exact hP, hD⟩, hS.F ht⟩) hS.2.2 dX2_speed_26
  refine lv_iload_n hx hb dX2_speed_8 rfl (lv_at hl 1 rfl) ?_
  refine lv_aload_n hx hb dX2_speed_9 rfl (lv_at hl 0 rfl) ?_
  refine va_get (D := D) (ci := 2) (v := .int (nI g.1)) (C := RX2) (T := TX2) (N := 10) hx hb hts in_X2 hown hKK.1 hP 0 rfl rfl 6 (by decide) (hts _ q188) (fun _ h9 => h9) rfl dX2_speed_10 ?_
  refine lv_icmp_le (tgt := 20) hx hb dX2_speed_13 (by decide) (fun c2 => ?_) (fun c2 => ?_)
  · have hok : sr_bok g k := ⟨c1, c2⟩
    obtain ⟨hk1, hk2⟩ := sr_bok_num hg1 hok
    refine lv_aload_n hx hb dX2_speed_20 rfl (lv_at hl 0 rfl) ?_
    refine va_get (D := D) (ci := 2) (v := .ref bq) (C := RX2) (T := TX2) (N := 10) hx hb hts in_X2 hown hKK.1 hP 0 rfl rfl 8 (by decide) (hts _ q190) (fun _ h9 => h9) rfl dX2_speed_21 ?_
    refine lv_iload_n hx hb dX2_speed_24 rfl (lv_at hl 1 rfl) ?_
    refine va_iald hx hb hKK.1 hP 7 0 rfl rfl (by rw [hk1]; exact vp_in_nI (by omega) (by omega)) dX2_speed_25 ?_
    exact W.iret hx hb hr (fun t ht hW => ⟨⟨_, _, rfl, ⟨Or.inl ⟨hok, hsp _ hk2⟩, ⟨bt, be, bf, bl, b1, b2, bq, tk, fe, fi, la, f1, l1, sp, 1, rfl, i1, i2, i3, i4, i5, i6, i7⟩⟩, by rw [ht]; exact hP, hD⟩, hS.F ht⟩) hS.2.2 dX2_speed_26
  · refine lv_iconst (v := (-1)) hx hb dX2_speed_16 (by decide +kernel) ?_
    refine lv_goto (tgt := 26) hx hb dX2_speed_17 (by decide) ?_
    exact W.iret hx hb hr (fun t ht hW => ⟨⟨_, _, rfl, ⟨Or.inr ⟨fun h => c2 h.2, rfl⟩, ⟨bt, be, bf, bl, b1, b2, bq, tk, fe, fi, la, f1, l1, sp, 1, rfl, i1, i2, i3, i4, i5, i6, i7⟩⟩, by rw [ht]; exact hP, hD⟩, hS.F ht⟩) hS.2.2 dX2_speed_26
set_option maxHeartbeats 4000000 in
set_option maxRecDepth 100000 in
/-- sum() -/
theorem sr_X2_sum (l : Launch) (D : va_G) (cI cB cM : ClassId) (ay sz : Nat) (g : sr_Sg) (hg : sr_OK g) (w : va_W) (hw : sr_MR cI cB ay g w) (hD0 : va_D (fun _ => True) w) : sr_CtL l D cI cB cM yX2_sum wsX2_sum ({ frames := 3, cells := 0, slots := 0, locals := 95 } : Room) [.ref ay] w sz (fun r u => r = sr_sum (sr_spd g) (g.1 + 1) ∧ sr_MR cI cB ay g u) 0 0 := by
  obtain ⟨bt, be, bf, bl, b1, b2, bq, tk, fe, fi, la, f1, l1, sp, kn, rfl, i1, i2, i3, i4, i5, i6, i7⟩ := hw
  refine Met.ofW (cc := cX2_sum) (maxL := 4) (ret := (some .long)) (by decide) rfl ?_
  intro p e s m args below meth c s₁ B hml hv
  obtain ⟨rfl, hKK, hsz, hP⟩ := hv
  have hx := B.exec
  have hb := B.bytes
  have hr := B.returns
  have hts := atoms_spec (ws := wsX2_sum) B.pre
  have hts : ∀ w ∈ lw_all, w.before _ s = true := fun w h => hts w (List.mem_cons_of_mem _ h)
  have hown : s.vm.findClass RX2 = some m.cls := findClass_of_methodNamed B.named
  have hlocks := B.notSynchronized
  subst hsz
  have hD := hD0.self (sz := s.heap.size)
  generalize hAe : va_A [(ay, .inr (2, [.ref bt, .ref be, .ref bf, .ref bl, .ref b1, .ref b2, .int (nI g.1), .int (nI g.2.1), .ref bq, .int kn])), (bt, .inl (cI, 2000, .inl tk)), (be, .inl (cI, 2000, .inl fe)), (bf, .inl (cB, 6000, .inl fi)), (bl, .inl (cB, 6000, .inl la)), (b1, .inl (cB, 3, .inl f1)), (b2, .inl (cB, 3, .inl l1)), (bq, .inl (cI, 2001, .inl sp))] s.heap.size = A at hD ⊢
  have hA : ∀ q : Nat, s.heap.size ≤ q → A q := fun q h => by rw [← hAe]; exact Or.inr h
  have hS : va_S A s.heap s.heap [] := va_S.rf
  have hP : va_P D vwCl [(ay, .inr (2, [.ref bt, .ref be, .ref bf, .ref bl, .ref b1, .ref b2, .int (nI g.1), .int (nI g.2.1), .ref bq, .int kn])), (bt, .inl (cI, 2000, .inl tk)), (be, .inl (cI, 2000, .inl fe)), (bf, .inl (cB, 6000, .inl fi)), (bl, .inl (cB, 6000, .inl la)), (b1, .inl (cB, 3, .inl f1)), (b2, .inl (cB, 3, .inl l1)), (bq, .inl (cI, 2001, .inl sp))] s.heap := hP
  have hl := lv_entry ([.ref ay]) (n := 4) (Nat.le_of_ble_eq_true rfl)
  rw [lg_entry_eq]
  generalize (lg_sl ([.ref ay]) ++ List.replicate (4 - (lg_sl ([.ref ay])).length) Slot.unset).toArray = ls at hl ⊢
  have hl : lv_has ls 4 [(0, .ref ay)] := hl
  have hg1 := hg.1
  refine lv_aload_n hx hb dX2_sum_0 rfl (lv_at hl 0 rfl) ?_
  have hF := sr_fW hD hS hA
  refine va_callv (va_runV (As := []) (rest := []) ⟨hx, hb, hml, hown, hts⟩ (sr_X2_know l D cI cB cM ay s.heap.size g hg _ ⟨bt, be, bf, bl, b1, b2, bq, tk, fe, fi, la, f1, l1, sp, kn, rfl, i1, i2, i3, i4, i5, i6, i7⟩ (hD.weaken (fun _ _ _ _ => trivial))) (cwV 0 hts (lw_V q252 q254 qs3 q10 q255) rfl rfl rfl (by decide +kernel) ⟨Nat.le_of_ble_eq_true rfl, Nat.le_of_ble_eq_true rfl⟩) (sr_preV hKK ⟨rfl, hP⟩ (va_recv hKK.1 hP (ci := 2) (q0 := 0) rfl rfl)) rfl rfl hl.1 rfl (lv_room (Nat.le_of_ble_eq_true rfl)) dX2_sum_1 ⟨Nat.le_of_ble_eq_true rfl, Nat.le_of_ble_eq_true rfl⟩) hS (fun q _ h => hF q h) hF (fun u t H1 locs ht hvm hw1 hB hz1 hk1 hS => ?_)
  obtain ⟨hP1, hD1⟩ := hB
  rw [ht] at hP1
  have hD1 := hD1.weaken (B := A) (fun k q _ h => hF q.1 h)
  obtain ⟨bt, be, bf, bl, b1, b2, bq, tk, fe, fi, la, f1, l1, sp, rfl, ⟨i1, i2, i3, i4, i5, i6, i7⟩, hsp⟩ := hw1
  generalize H1 = H at hP1 hS ⊢
  have hP : va_P D vwCl [(ay, .inr (2, [.ref bt, .ref be, .ref bf, .ref bl, .ref b1, .ref b2, .int (nI g.1), .int (nI g.2.1), .ref bq, .int 1])), (bt, .inl (cI, 2000, .inl tk)), (be, .inl (cI, 2000, .inl fe)), (bf, .inl (cB, 6000, .inl fi)), (bl, .inl (cB, 6000, .inl la)), (b1, .inl (cB, 3, .inl f1)), (b2, .inl (cB, 3, .inl l1)), (bq, .inl (cI, 2001, .inl sp))] H := hP1
  have hD : va_D A [(ay, .inr (2, [.ref bt, .ref be, .ref bf, .ref bl, .ref b1, .ref b2, .int (nI g.1), .int (nI g.2.1), .ref bq, .int 1])), (bt, .inl (cI, 2000, .inl tk)), (be, .inl (cI, 2000, .inl fe)), (bf, .inl (cB, 6000, .inl fi)), (bl, .inl (cB, 6000, .inl la)), (b1, .inl (cB, 3, .inl f1)), (b2, .inl (cB, 3, .inl l1)), (bq, .inl (cI, 2001, .inl sp))] := hD1
  have loop : ∀ (n k : Nat) (ls : Array Slot), k ≤ g.1 + 1 → g.1 + 2 ≤ k + n → lv_has ls 4 [(3, .int (nI k)), (1, .long (sr_sum (sr_spd g) k)), (0, .ref ay)] → W p l e (headSpec wsX2_sum ({ frames := 3, cells := 0, slots := 0, locals := 95 } : Room)).room s m ([.ref ay] : List Value).toArray below meth c H locs (0 + 0) (0 + 0) (MQ below (va_Ql (fun r u => r = sr_sum (sr_spd g) (g.1 + 1) ∧ sr_MR cI cB ay g u) (sr_Bw D A) A) ([.ref ay] : List Value).toArray s 0 0 A) (F0 m 8 ls []) := by
    intro n
    induction n with
    | zero => intro k ls h1 h2; exact absurd h2 (by omega)
    | succ n ih =>
      intro k ls h1 h2 hl
      refine lv_iload_n hx hb dX2_sum_8 rfl (lv_at hl 0 rfl) ?_
      refine lv_aload_n hx hb dX2_sum_9 rfl (lv_at hl 2 rfl) ?_
      refine va_get (D := D) (ci := 2) (v := .int (nI g.1)) (C := RX2) (T := TX2) (N := 10) hx hb hts in_X2 hown hKK.1 hP 0 rfl rfl 6 (by decide) (hts _ q188) (fun _ h9 => h9) rfl dX2_sum_10 ?_
      refine lv_icmp_gt (tgt := 32) hx hb dX2_sum_13 (by decide) (fun c3 => ?_) (fun c3 => ?_)
      · have hk : g.1 < k := (nI_ltI (by omega) (by omega)).mp c3
        refine lv_lload_n hx hb dX2_sum_32 rfl (lv_at hl 1 rfl) ?_
        exact W.lret hx hb hr (fun t ht hW => ⟨⟨_, _, rfl, ⟨by rw [show k = g.1 + 1 by omega], ⟨bt, be, bf, bl, b1, b2, bq, tk, fe, fi, la, f1, l1, sp, 1, rfl, i1, i2, i3, i4, i5, i6, i7⟩⟩, by rw [ht]; exact hP, hD⟩, hS.F ht⟩) hS.2.2 dX2_sum_33
      · have hk : k ≤ g.1 := Nat.le_of_not_lt (fun h => c3 (nI_lt h (by omega)))
        refine lv_lload_n hx hb dX2_sum_16 rfl (lv_at hl 1 rfl) ?_
        refine lv_aload_n hx hb dX2_sum_17 rfl (lv_at hl 2 rfl) ?_
        refine va_get (D := D) (ci := 2) (v := .ref bq) (C := RX2) (T := TX2) (N := 10) hx hb hts in_X2 hown hKK.1 hP 0 rfl rfl 8 (by decide) (hts _ q190) (fun _ h9 => h9) rfl dX2_sum_18 ?_
        refine lv_iload_n hx hb dX2_sum_21 rfl (lv_at hl 0 rfl) ?_
        refine va_iald hx hb hKK.1 hP 7 0 rfl rfl (vp_in_nI (by omega) (by omega)) dX2_sum_22 ?_
        refine sr_ti (y := (nI (sr_spd g k))) (by rw [nI_clamp (by omega)]; exact hsp k hk) ?_
        refine lv_i2l (v := (nI (sr_spd g k)).toInt64) hx hb dX2_sum_23 rfl ?_
        refine lv_ladd hx hb dX2_sum_24 ?_
        refine sr_tl (y := (sr_sum (sr_spd g) (k + 1))) (rfl) ?_
        refine lv_lstore_n (lv' := [(1, .long (sr_sum (sr_spd g) (k + 1))), (3, .int (nI k)), (0, .ref ay)]) hx hb dX2_sum_25 rfl hl (by decide) rfl (fun ls hl => ?_)
        refine lv_iinc (v := (nI (k + 1))) (lv' := [(3, .int (nI (k + 1))), (1, .long (sr_sum (sr_spd g) (k + 1))), (0, .ref ay)]) hx hb dX2_sum_26 hl (k := 1) rfl (nI_1 k) (by decide) rfl (fun ls hl => ?_)
        refine lv_goto (tgt := 8) hx hb dX2_sum_29 (by decide) ?_
        exact ih (k + 1) ls (by omega) (by omega) (lv_sub hl [0, 1, 2] rfl)
  refine lv_lconst (v := (lN 0)) hx hb dX2_sum_4 (by decide +kernel) ?_
  refine lv_lstore_n (lv' := [(1, .long (lN 0)), (0, .ref ay)]) hx hb dX2_sum_5 rfl hl (by decide) rfl (fun ls hl => ?_)
  refine lv_iconst (v := (nI 0)) hx hb dX2_sum_6 (by decide +kernel) ?_
  refine lv_istore_n (lv' := [(3, .int (nI 0)), (1, .long (lN 0)), (0, .ref ay)]) hx hb dX2_sum_7 rfl hl (by decide) rfl (fun ls hl => ?_)
  exact loop (g.1 + 2) 0 ls (by omega) (by omega) (lv_sub hl [0, 1, 2] rfl)
set_option maxHeartbeats 4000000 in
set_option maxRecDepth 100000 in
/-- below() -/
theorem sr_X2_below (l : Launch) (D : va_G) (cI cB cM : ClassId) (ay sz : Nat) (g : sr_Sg) (hg : sr_OK g) (w : va_W) (hw : sr_MR cI cB ay g w) (hD0 : va_D (fun _ => True) w) : sr_CtI l D cI cB cM yX2_below wsX2_below ({ frames := 3, cells := 0, slots := 0, locals := 95 } : Room) [.ref ay] w sz (fun r u => r = sr_bel (sr_spd g) (sr_lim g) (g.1 + 1) ∧ sr_MR cI cB ay g u) 0 0 := by
  obtain ⟨bt, be, bf, bl, b1, b2, bq, tk, fe, fi, la, f1, l1, sp, kn, rfl, i1, i2, i3, i4, i5, i6, i7⟩ := hw
  refine Met.ofW (cc := cX2_below) (maxL := 3) (ret := (some .int)) (by decide) rfl ?_
  intro p e s m args below meth c s₁ B hml hv
  obtain ⟨rfl, hKK, hsz, hP⟩ := hv
  have hx := B.exec
  have hb := B.bytes
  have hr := B.returns
  have hts := atoms_spec (ws := wsX2_below) B.pre
  have hts : ∀ w ∈ lw_all, w.before _ s = true := fun w h => hts w (List.mem_cons_of_mem _ h)
  have hown : s.vm.findClass RX2 = some m.cls := findClass_of_methodNamed B.named
  have hlocks := B.notSynchronized
  subst hsz
  have hD := hD0.self (sz := s.heap.size)
  generalize hAe : va_A [(ay, .inr (2, [.ref bt, .ref be, .ref bf, .ref bl, .ref b1, .ref b2, .int (nI g.1), .int (nI g.2.1), .ref bq, .int kn])), (bt, .inl (cI, 2000, .inl tk)), (be, .inl (cI, 2000, .inl fe)), (bf, .inl (cB, 6000, .inl fi)), (bl, .inl (cB, 6000, .inl la)), (b1, .inl (cB, 3, .inl f1)), (b2, .inl (cB, 3, .inl l1)), (bq, .inl (cI, 2001, .inl sp))] s.heap.size = A at hD ⊢
  have hA : ∀ q : Nat, s.heap.size ≤ q → A q := fun q h => by rw [← hAe]; exact Or.inr h
  have hS : va_S A s.heap s.heap [] := va_S.rf
  have hP : va_P D vwCl [(ay, .inr (2, [.ref bt, .ref be, .ref bf, .ref bl, .ref b1, .ref b2, .int (nI g.1), .int (nI g.2.1), .ref bq, .int kn])), (bt, .inl (cI, 2000, .inl tk)), (be, .inl (cI, 2000, .inl fe)), (bf, .inl (cB, 6000, .inl fi)), (bl, .inl (cB, 6000, .inl la)), (b1, .inl (cB, 3, .inl f1)), (b2, .inl (cB, 3, .inl l1)), (bq, .inl (cI, 2001, .inl sp))] s.heap := hP
  have hl := lv_entry ([.ref ay]) (n := 3) (Nat.le_of_ble_eq_true rfl)
  rw [lg_entry_eq]
  generalize (lg_sl ([.ref ay]) ++ List.replicate (3 - (lg_sl ([.ref ay])).length) Slot.unset).toArray = ls at hl ⊢
  have hl : lv_has ls 3 [(0, .ref ay)] := hl
  have hg1 := hg.1
  refine lv_aload_n hx hb dX2_below_0 rfl (lv_at hl 0 rfl) ?_
  have hF := sr_fW hD hS hA
  refine va_callv (va_runV (As := []) (rest := []) ⟨hx, hb, hml, hown, hts⟩ (sr_X2_know l D cI cB cM ay s.heap.size g hg _ ⟨bt, be, bf, bl, b1, b2, bq, tk, fe, fi, la, f1, l1, sp, kn, rfl, i1, i2, i3, i4, i5, i6, i7⟩ (hD.weaken (fun _ _ _ _ => trivial))) (cwV 0 hts (lw_V q252 q254 qs3 q10 q255) rfl rfl rfl (by decide +kernel) ⟨Nat.le_of_ble_eq_true rfl, Nat.le_of_ble_eq_true rfl⟩) (sr_preV hKK ⟨rfl, hP⟩ (va_recv hKK.1 hP (ci := 2) (q0 := 0) rfl rfl)) rfl rfl hl.1 rfl (lv_room (Nat.le_of_ble_eq_true rfl)) dX2_below_1 ⟨Nat.le_of_ble_eq_true rfl, Nat.le_of_ble_eq_true rfl⟩) hS (fun q _ h => hF q h) hF (fun u t H1 locs ht hvm hw1 hB hz1 hk1 hS => ?_)
  obtain ⟨hP1, hD1⟩ := hB
  rw [ht] at hP1
  have hD1 := hD1.weaken (B := A) (fun k q _ h => hF q.1 h)
  obtain ⟨bt, be, bf, bl, b1, b2, bq, tk, fe, fi, la, f1, l1, sp, rfl, ⟨i1, i2, i3, i4, i5, i6, i7⟩, hsp⟩ := hw1
  generalize H1 = H at hP1 hS ⊢
  have hP : va_P D vwCl [(ay, .inr (2, [.ref bt, .ref be, .ref bf, .ref bl, .ref b1, .ref b2, .int (nI g.1), .int (nI g.2.1), .ref bq, .int 1])), (bt, .inl (cI, 2000, .inl tk)), (be, .inl (cI, 2000, .inl fe)), (bf, .inl (cB, 6000, .inl fi)), (bl, .inl (cB, 6000, .inl la)), (b1, .inl (cB, 3, .inl f1)), (b2, .inl (cB, 3, .inl l1)), (bq, .inl (cI, 2001, .inl sp))] H := hP1
  have hD : va_D A [(ay, .inr (2, [.ref bt, .ref be, .ref bf, .ref bl, .ref b1, .ref b2, .int (nI g.1), .int (nI g.2.1), .ref bq, .int 1])), (bt, .inl (cI, 2000, .inl tk)), (be, .inl (cI, 2000, .inl fe)), (bf, .inl (cB, 6000, .inl fi)), (bl, .inl (cB, 6000, .inl la)), (b1, .inl (cB, 3, .inl f1)), (b2, .inl (cB, 3, .inl l1)), (bq, .inl (cI, 2001, .inl sp))] := hD1
  have loop : ∀ (n k : Nat) (ls : Array Slot), k ≤ g.1 + 1 → g.1 + 2 ≤ k + n → lv_has ls 3 [(2, .int (nI k)), (1, .int (sr_bel (sr_spd g) (sr_lim g) k)), (0, .ref ay)] → W p l e (headSpec wsX2_below ({ frames := 3, cells := 0, slots := 0, locals := 95 } : Room)).room s m ([.ref ay] : List Value).toArray below meth c H locs (0 + 0) (0 + 0) (MQ below (va_Qi (fun r u => r = sr_bel (sr_spd g) (sr_lim g) (g.1 + 1) ∧ sr_MR cI cB ay g u) (sr_Bw D A) A) ([.ref ay] : List Value).toArray s 0 0 A) (F0 m 8 ls []) := by
    intro n
    induction n with
    | zero => intro k ls h1 h2; exact absurd h2 (by omega)
    | succ n ih =>
      intro k ls h1 h2 hl
      refine lv_iload_n hx hb dX2_below_8 rfl (lv_at hl 0 rfl) ?_
      refine lv_aload_n hx hb dX2_below_9 rfl (lv_at hl 2 rfl) ?_
      refine va_get (D := D) (ci := 2) (v := .int (nI g.1)) (C := RX2) (T := TX2) (N := 10) hx hb hts in_X2 hown hKK.1 hP 0 rfl rfl 6 (by decide) (hts _ q188) (fun _ h9 => h9) rfl dX2_below_10 ?_
      refine lv_icmp_gt (tgt := 39) hx hb dX2_below_13 (by decide) (fun c3 => ?_) (fun c3 => ?_)
      · have hk : g.1 < k := (nI_ltI (by omega) (by omega)).mp c3
        refine lv_iload_n hx hb dX2_below_39 rfl (lv_at hl 1 rfl) ?_
        exact W.iret hx hb hr (fun t ht hW => ⟨⟨_, _, rfl, ⟨by rw [show k = g.1 + 1 by omega], ⟨bt, be, bf, bl, b1, b2, bq, tk, fe, fi, la, f1, l1, sp, 1, rfl, i1, i2, i3, i4, i5, i6, i7⟩⟩, by rw [ht]; exact hP, hD⟩, hS.F ht⟩) hS.2.2 dX2_below_40
      · have hk : k ≤ g.1 := Nat.le_of_not_lt (fun h => c3 (nI_lt h (by omega)))
        have hPl := hP.sub (ws' := [(ay, .inr (2, [.ref bt, .ref be, .ref bf, .ref bl, .ref b1, .ref b2, .int (nI g.1), .int (nI g.2.1), .ref bq, .int 1])), (be, .inl (cI, 2000, .inl fe)), (bf, .inl (cB, 6000, .inl fi)), (bl, .inl (cB, 6000, .inl la))]) [0, 2, 3, 4] rfl
        refine lv_aload_n hx hb dX2_below_16 rfl (lv_at hl 2 rfl) ?_
        refine va_get (D := D) (ci := 2) (v := .ref bq) (C := RX2) (T := TX2) (N := 10) hx hb hts in_X2 hown hKK.1 hP 0 rfl rfl 8 (by decide) (hts _ q190) (fun _ h9 => h9) rfl dX2_below_17 ?_
        refine lv_iload_n hx hb dX2_below_20 rfl (lv_at hl 0 rfl) ?_
        refine va_iald hx hb hKK.1 hP 7 0 rfl rfl (vp_in_nI (by omega) (by omega)) dX2_below_21 ?_
        refine sr_ti (y := (nI (sr_spd g k))) (by rw [nI_clamp (by omega)]; exact hsp k hk) ?_
        refine lv_aload_n hx hb dX2_below_22 rfl (lv_at hl 2 rfl) ?_
        refine lv_iload_n hx hb dX2_below_23 rfl (lv_at hl 0 rfl) ?_
        refine vp_callSi (W.runV (As := [.int (nI k)]) (rest := [.int (nI (sr_spd g k))]) ⟨hx, hb, hml, hown, hts⟩ (sr_X2_limit l D cI cB cM ay be bf bl (.ref bt) (.ref b1) (.ref b2) (.int (nI g.2.1)) (.ref bq) (.int 1) fe fi la g hg i2 i3 i4 (nI k)) (cwV 1 hts (lw_V q256 q243 q244 q10 q245) rfl rfl rfl (by decide +kernel) ⟨Nat.le_of_ble_eq_true rfl, Nat.le_of_ble_eq_true rfl⟩) (sr_preV hKK hPl (va_recv hKK.1 hPl (ci := 2) (q0 := 0) rfl rfl)) rfl rfl hl.1 rfl (lv_room (Nat.le_of_ble_eq_true rfl)) dX2_below_24 ⟨Nat.le_of_ble_eq_true rfl, Nat.le_of_ble_eq_true rfl⟩) (fun r1 hr1 => ?_)
        have hok : sr_bok g (nI k) := ⟨nI_pos (by omega), nI_le hk (by omega)⟩
        have hr1 : r1 = nI (sr_lim g k) := by
          rcases hr1 with ⟨-, q⟩ | ⟨q, -⟩
          · rw [q, nI_clamp (by omega)]
          · exact absurd hok q
        have hr1 := hr1.symm
        subst hr1
        refine lv_icmp_ge (tgt := 33) hx hb dX2_below_27 (by decide) (fun c4 => ?_) (fun c4 => ?_)
        · refine lv_iinc (v := (nI (k + 1))) (lv' := [(2, .int (nI (k + 1))), (1, .int (sr_bel (sr_spd g) (sr_lim g) k)), (0, .ref ay)]) hx hb dX2_below_33 hl (k := 0) rfl (nI_1 k) (by decide) rfl (fun ls hl => ?_)
          refine lv_goto (tgt := 8) hx hb dX2_below_36 (by decide) ?_
          have hbe : sr_bel (sr_spd g) (sr_lim g) (k + 1) = sr_bel (sr_spd g) (sr_lim g) k := if_neg (Int32.not_lt.mpr c4)
          exact ih (k + 1) ls (by omega) (by omega) (by rw [hbe]; exact lv_sub hl [0, 1, 2] rfl)
        · refine lv_iinc (v := (sr_bel (sr_spd g) (sr_lim g) k + 1)) (lv' := [(1, .int (sr_bel (sr_spd g) (sr_lim g) k + 1)), (2, .int (nI k)), (0, .ref ay)]) hx hb dX2_below_30 hl (k := 1) rfl (rfl) (by decide) rfl (fun ls hl => ?_)
          refine lv_iinc (v := (nI (k + 1))) (lv' := [(2, .int (nI (k + 1))), (1, .int (sr_bel (sr_spd g) (sr_lim g) k + 1)), (0, .ref ay)]) hx hb dX2_below_33 hl (k := 1) rfl (nI_1 k) (by decide) rfl (fun ls hl => ?_)
          refine lv_goto (tgt := 8) hx hb dX2_below_36 (by decide) ?_
          have hbe : sr_bel (sr_spd g) (sr_lim g) (k + 1) = sr_bel (sr_spd g) (sr_lim g) k + 1 := if_pos (Int32.not_le.mp c4)
          exact ih (k + 1) ls (by omega) (by omega) (by rw [hbe]; exact lv_sub hl [0, 1, 2] rfl)
  refine lv_iconst (v := (nI 0)) hx hb dX2_below_4 (by decide +kernel) ?_
  refine lv_istore_n (lv' := [(1, .int (nI 0)), (0, .ref ay)]) hx hb dX2_below_5 rfl hl (by decide) rfl (fun ls hl => ?_)
  refine lv_iconst (v := (nI 0)) hx hb dX2_below_6 (by decide +kernel) ?_
  refine lv_istore_n (lv' := [(2, .int (nI 0)), (1, .int (nI 0)), (0, .ref ay)]) hx hb dX2_below_7 rfl hl (by decide) rfl (fun ls hl => ?_)
  exact loop (g.1 + 2) 0 ls (by omega) (by omega) (lv_sub hl [0, 1, 2] rfl)
end
section
/-! THE CLAIM OUT OF ONE WALK OF THE LAW'S BODY. Your part is whole_start (and what it stands on); all else here is the same for every law, but numbers. -/
def R_law : String := "SpeedRowsLaw"
def lw_P (b : Addr) (xs : List Int32) (args : Array Value) (s : State) : Prop := args = #[.ref b] ∧ s.IntsAt b xs ∧ xs.length ≤ 256 ∧ (Jvm.Cond.and given_1 narrow_1).before args s = true
def lw_Q (_ : Array Value) (s : State) (o : Outcome) (t : State) : Prop := o = .returned (some (.int 1)) ∧ Framed s o t [] 600000 7302250
def lw_Z (below : List Frame) (a : Array Value) (s : State) : State → Prop := fun t => ∃ o, t.status = .running ∧ Ended t below o ∧ lw_Q a s o t
/-- the law's own end, with 1 on the stack, nothing written that was there before, its room as the claim has it -/
theorem lw_ret {p : Program} {l : Launch} {e : Env} {s : State} {m : MethodId} {below : List Frame} {meth : Method} {c : Code} {b : Nat} (hx : p.tables.exec = Jvm.exec) (hb : c.code = code) (hr : meth.sig.returnType = ret) (hlocks : meth.locks = false) {pc : Nat} {H : Heap} {ls : Array Slot} (hdg : decode code pc = .ok (.ireturn, 1)) : W p l e room_1 s m #[Value.ref b] below meth c H [] 600000 7302250 (lw_Z below #[Value.ref b] s) (F0 m pc ls [.int 1]) := by
  intro T hT X
  obtain ⟨fs, hret, hrun, hended, hW, hframe⟩ := X.leave (v := some (.int 1)) (hlocks := hlocks) (fun h => by rw [hr] at h; cases h)
  have hmeth' : T.vm.method? m = some meth := X.method'
  refine ⟨T.setFrames fs, ?_, .returned (some (.int 1)), hrun, hended, rfl, ⟨_, rfl⟩, hW, hframe⟩
  jvm_step X.here [X.here.top, hx, hb, hdg, hmeth', hr, ret, narrow_b1]
  (try refine ⟨rfl, ?_⟩); (try refine ⟨rfl, ?_⟩)
  first | (intro acts; rw [hret _ acts rfl rfl rfl]) | rw [hret _ _ rfl rfl rfl]
  exact Steps.refl _
/-- what holds at the law's entry: the machine, the code, the tables' words (any of lw_tbl by 'hts w (by decide +kernel)'), the script of L ints xs at the cell b, what the Statement gives of the start (any of its parts by flat_of_before) -/
def lw_At (p : Program) (s : State) (m : MethodId) (meth : Method) (c : Code) (b L : Nat) (xs : Nat → Int32) : Prop :=
  p.tables.exec = Jvm.exec ∧ c.code = code ∧ meth.sig.returnType = ret ∧ c.maxLocals = 4 ∧ s.vm.findClass R_law = some m.cls ∧ (∀ w ∈ lw_tbl, w.before #[Value.ref b] s = true) ∧ va_X b L xs s s.heap ∧ b < s.heap.size ∧ meth.locks = false ∧ (Jvm.Cond.and given_1 narrow_1).before #[Value.ref b] s = true
end
section
/-! the law: its loop, and its entry -/
theorem sr_K_int {A : Array Value} {s : State} (h : (Cond.arrayClass .int).before A s = true) : ∃ cA, ArrOfT s cA .int ∧ va_RA s cA .int := by
  obtain ⟨cA, kA, comp, hfind, hk, hkind⟩ := Cond.arrayClass_spec h
  exact ⟨cA, fun n z => ⟨fun k h => (by cases h), kA, hk, comp, hkind⟩, hfind⟩
theorem sr_K_byte {A : Array Value} {s : State} (h : (Cond.arrayClass .byte).before A s = true) : ∃ cA, ArrOfT s cA .byte ∧ va_RA s cA .byte := by
  obtain ⟨cA, kA, comp, hfind, hk, hkind⟩ := Cond.arrayClass_spec h
  exact ⟨cA, fun n z => ⟨fun k h => (by cases h), kA, hk, comp, hkind⟩, hfind⟩
theorem sr_K_obj {C : String} {s : State} (h : va_AO C s) : ∃ cA, ArrOfT s cA (.object C) ∧ va_RA s cA (.object C) := by
  obtain ⟨comp, c, k, h1, h2, h3, h4, h5⟩ := Cond.arrayOver_spec h
  exact ⟨c, fun n z => ⟨fun k h => (by cases h), k, h3, comp, h4⟩, k, comp, h3, h4, h1, h5⟩
theorem sr_XR.h0 {cI cM : ClassId} {ax : Nat} {g : sr_Sg} {w : va_W} (h : sr_XR cI cM ax g w) : ∃ fs, w[0]? = some (ax, .inr (0, fs)) := by
  obtain ⟨am, ai, ar, aq, sf, sl, fm, li, ri, sp, dn, pl, rfl, -⟩ := h
  exact ⟨_, rfl⟩
theorem sr_MR.h0 {cI cB : ClassId} {ay : Nat} {g : sr_Sg} {w : va_W} (h : sr_MR cI cB ay g w) : ∃ fs, w[0]? = some (ay, .inr (2, fs)) := by
  obtain ⟨bt, be, bf, bl, b1, b2, bq, tk, fe, fi, la, f1, l1, sp, kn, rfl, -⟩ := h
  exact ⟨_, rfl⟩
set_option maxHeartbeats 4000000 in
set_option maxRecDepth 100000 in
/-- THE LAW'S LOOP: at its head, with j calls made, class and reference hold the same state -/
theorem sr_loop {p : Program} {e : Env} {s : State} {m : MethodId} {below : List Frame} {meth : Method} {c : Code} (l : Launch) {b L : Nat} {xs : Nat → Int32} (hL : L ≤ 256) (C0 : lw_At p s m meth c b L xs) {D : va_G} {cI cB cM : ClassId} (hKK : sr_KK D cI cB cM s) (ax ay : Nat) : ∀ (n j : Nat) (g : sr_Sg) (wx wm : va_W) (H : Heap) (locs : List Loc) (ls : Array Slot), 4 * j ≤ L → L + 1 ≤ 4 * j + n → sr_OK g → sr_XR cI cM ax g wx → sr_MR cI cB ay g wm → va_P D vwCl (wx ++ wm) H → va_D (fun q : Nat => s.heap.size ≤ q) (wx ++ wm) → va_S (fun q : Nat => s.heap.size ≤ q) s.heap H locs → lv_has ls 4 [(0, .ref b), (1, .ref ax), (2, .ref ay), (3, .int (nI (4 * j)))] → W p l e room_1 s m #[Value.ref b] below meth c H locs (15 + j) (26035 + 4 * j) (lw_Z below #[Value.ref b] s) (F0 m 18 ls []) := by
  obtain ⟨hx, hb, hr, hml, hown, hts0, hV, hbl, hlocks, hgv⟩ := C0
  have hts : ∀ w ∈ lw_all, w.before #[Value.ref b] s = true := fun w h => hts0 w (lw_all_tbl h)
  have hA : ∀ q : Nat, s.heap.size ≤ q → (fun q : Nat => s.heap.size ≤ q) q := fun _ h => h
  have hbA : ¬ (fun q : Nat => s.heap.size ≤ q) b := Nat.not_le.mpr hbl
  intro n
  induction n with
  | zero => intro j g wx wm H locs ls h1 h2; exact absurd h2 (by omega)
  | succ n ih =>
    intro j g wx wm H locs ls h1 h2 hg hX hM hP hD hS hl
    refine lv_iload_n hx hb dL_law_18 rfl (lv_at hl 3 rfl) ?_
    refine lv_aload_n hx hb dL_law_19 rfl (lv_at hl 0 rfl) ?_
    refine va_slen hx hb hV hbl hbA hS dL_law_20 ?_
    refine sr_ti (y := (nI L)) (rfl) ?_
    refine lv_iconst (v := (nI 4)) hx hb dL_law_21 (by decide +kernel) ?_
    refine lv_isub hx hb dL_law_22 ?_
    refine lv_icmp_gt (tgt := 328) hx hb dL_law_23 (by decide) (fun c1 => ?_) (fun c1 => ?_)
    · refine lv_iconst (v := (nI 1)) hx hb dL_law_328 (by decide +kernel) ?_
      refine va_forget (fun q hq => hS.2.2 q hq) ?_
      refine W.widen (k := 600000) (n := 7302250) (by omega) (by omega) ?_
      exact lw_ret hx hb hr hlocks dL_law_329
    · have hlt : 4 * j + 4 ≤ L := by
        rw [Int32.lt_iff_toInt_lt, pk_sub_toInt (by omega) (by omega), nI_toInt (by omega)] at c1
        omega
      have next : ∀ (g : sr_Sg) (wx wm : va_W) (H : Heap) (locs : List Loc), sr_OK g → sr_XR cI cM ax g wx → sr_MR cI cB ay g wm → va_P D vwCl (wx ++ wm) H → va_D (fun q : Nat => s.heap.size ≤ q) (wx ++ wm) → va_S (fun q : Nat => s.heap.size ≤ q) s.heap H locs → W p l e room_1 s m #[Value.ref b] below meth c H locs (15 + (j + 1)) (26035 + 4 * (j + 1)) (lw_Z below #[Value.ref b] s) (F0 m 322 ls []) := by
        intro g wx wm H locs hg hX hM hP hD hS
        refine lv_iinc (v := (nI (4 * (j + 1)))) (lv' := [(3, .int (nI (4 * (j + 1)))), (0, .ref b), (1, .ref ax), (2, .ref ay)]) hx hb dL_law_322 hl (k := 3) rfl (by rw [show 4 * (j + 1) = 4 * j + 4 by omega]; exact nI_add (4 * j) 4) (by decide) rfl (fun ls hl => ?_)
        refine lv_goto (tgt := 18) hx hb dL_law_325 (by decide) ?_
        exact ih (j + 1) g wx wm H locs ls (by omega) (by omega) hg hX hM hP hD hS (lv_sub hl [1, 2, 3, 0] rfl)
      obtain ⟨fsx, hx0⟩ := hX.h0
      obtain ⟨fsm, hm0⟩ := hM.h0
      refine lv_aload_n hx hb dL_law_26 rfl (lv_at hl 0 rfl) ?_
      refine lv_iload_n hx hb dL_law_27 rfl (lv_at hl 3 rfl) ?_
      refine va_sld hx hb hV hbl hbA hS (vp_in_nI (by omega) (by omega)) dL_law_28 ?_
      refine sr_ti (y := (xs (4 * j))) (by rw [nI_clamp (by omega)]) ?_
      refine lv_bipush (v := (nI 15)) hx hb dL_law_29 (by decide +kernel) ?_
      refine lv_iand hx hb dL_law_31 ?_
      obtain ⟨q, hq, eq⟩ := pk_andE (xs (4 * j)) (m := nI 15) 4 (by decide +kernel)
      refine sr_ti (y := (nI q)) (eq) ?_
      rcases (show q = 0 ∨ q = 1 ∨ q = 2 ∨ q = 3 ∨ q = 4 ∨ q = 5 ∨ q = 6 ∨ q = 7 ∨ q = 8 ∨ 9 ≤ q by omega) with rfl | rfl | rfl | rfl | rfl | rfl | rfl | rfl | rfl | hq9
      · refine lv_tableIn (tgt := 84) (off := 52) hx hb dL_law_32 (by decide +kernel) (by decide +kernel) (by decide +kernel) (by decide) ?_
        refine lv_aload_n hx hb dL_law_84 rfl (lv_at hl 1 rfl) ?_
        refine lv_aload_n hx hb dL_law_85 rfl (lv_at hl 0 rfl) ?_
        refine lv_iload_n hx hb dL_law_86 rfl (lv_at hl 3 rfl) ?_
        refine lv_iconst (v := (nI 1)) hx hb dL_law_87 (by decide +kernel) ?_
        refine lv_iadd hx hb dL_law_88 ?_
        refine sr_ti (y := (nI (4 * j + 1))) (nI_add _ _) ?_
        refine va_sld hx hb hV hbl hbA hS (vp_in_nI (by omega) (by omega)) dL_law_89 ?_
        refine sr_ti (y := (xs (4 * j + 1))) (by rw [nI_clamp (by omega)]) ?_
        refine lv_aload_n hx hb dL_law_90 rfl (lv_at hl 0 rfl) ?_
        refine lv_iload_n hx hb dL_law_91 rfl (lv_at hl 3 rfl) ?_
        refine lv_iconst (v := (nI 2)) hx hb dL_law_92 (by decide +kernel) ?_
        refine lv_iadd hx hb dL_law_93 ?_
        refine sr_ti (y := (nI (4 * j + 2))) (nI_add _ _) ?_
        refine va_sld hx hb hV hbl hbA hS (vp_in_nI (by omega) (by omega)) dL_law_94 ?_
        refine sr_ti (y := (xs (4 * j + 2))) (by rw [nI_clamp (by omega)]) ?_
        refine lv_aload_n hx hb dL_law_95 rfl (lv_at hl 0 rfl) ?_
        refine lv_iload_n hx hb dL_law_96 rfl (lv_at hl 3 rfl) ?_
        refine lv_iconst (v := (nI 3)) hx hb dL_law_97 (by decide +kernel) ?_
        refine lv_iadd hx hb dL_law_98 ?_
        refine sr_ti (y := (nI (4 * j + 3))) (nI_add _ _) ?_
        refine va_sld hx hb hV hbl hbA hS (vp_in_nI (by omega) (by omega)) dL_law_99 ?_
        refine sr_ti (y := (xs (4 * j + 3))) (by rw [nI_clamp (by omega)]) ?_
        have hF := sr_fL hD hS hA
        refine va_calli (va_runV (As := [.int (xs (4 * j + 1)), .int (xs (4 * j + 2)), .int (xs (4 * j + 3))]) (rest := []) ⟨hx, hb, hml, hown, hts⟩ (sr_X0_first l D cI cB cM ax H.size g hg wx hX ((sr_Dl hD).weaken (fun _ _ _ _ => trivial)) (xs (4 * j + 1)) (xs (4 * j + 2)) (xs (4 * j + 3))) (cwV 3 hts (lw_V q71 q72 q73 q7 q74) rfl rfl rfl (by decide +kernel) ⟨Nat.le_of_ble_eq_true rfl, Nat.le_of_ble_eq_true rfl⟩) (sr_preV hKK ⟨rfl, sr_Pl hP⟩ (va_recv hKK.1 (sr_Pl hP) (ci := 0) (q0 := 0) rfl hx0)) rfl rfl hl.1 rfl (lv_room (Nat.le_of_ble_eq_true rfl)) dL_law_100 ⟨(by show _ ≤ 600000; omega), (by show _ ≤ 7302250; omega)⟩) hS (fun q _ h => hF q h) hF (fun rx ux t H1 locs ht hvm hwx hB hz1 hk1 hS => ?_)
        obtain ⟨hP1, hD1⟩ := hB
        rw [ht] at hP1
        obtain ⟨hP, hD⟩ := sr_jL hP hD hk1 hF hP1 hD1
        generalize H1 = H at hP hS ⊢
        refine lv_aload_n hx hb dL_law_103 rfl (lv_at hl 2 rfl) ?_
        refine lv_aload_n hx hb dL_law_104 rfl (lv_at hl 0 rfl) ?_
        refine lv_iload_n hx hb dL_law_105 rfl (lv_at hl 3 rfl) ?_
        refine lv_iconst (v := (nI 1)) hx hb dL_law_106 (by decide +kernel) ?_
        refine lv_iadd hx hb dL_law_107 ?_
        refine sr_ti (y := (nI (4 * j + 1))) (nI_add _ _) ?_
        refine va_sld hx hb hV hbl hbA hS (vp_in_nI (by omega) (by omega)) dL_law_108 ?_
        refine sr_ti (y := (xs (4 * j + 1))) (by rw [nI_clamp (by omega)]) ?_
        refine lv_aload_n hx hb dL_law_109 rfl (lv_at hl 0 rfl) ?_
        refine lv_iload_n hx hb dL_law_110 rfl (lv_at hl 3 rfl) ?_
        refine lv_iconst (v := (nI 2)) hx hb dL_law_111 (by decide +kernel) ?_
        refine lv_iadd hx hb dL_law_112 ?_
        refine sr_ti (y := (nI (4 * j + 2))) (nI_add _ _) ?_
        refine va_sld hx hb hV hbl hbA hS (vp_in_nI (by omega) (by omega)) dL_law_113 ?_
        refine sr_ti (y := (xs (4 * j + 2))) (by rw [nI_clamp (by omega)]) ?_
        refine lv_aload_n hx hb dL_law_114 rfl (lv_at hl 0 rfl) ?_
        refine lv_iload_n hx hb dL_law_115 rfl (lv_at hl 3 rfl) ?_
        refine lv_iconst (v := (nI 3)) hx hb dL_law_116 (by decide +kernel) ?_
        refine lv_iadd hx hb dL_law_117 ?_
        refine sr_ti (y := (nI (4 * j + 3))) (nI_add _ _) ?_
        refine va_sld hx hb hV hbl hbA hS (vp_in_nI (by omega) (by omega)) dL_law_118 ?_
        refine sr_ti (y := (xs (4 * j + 3))) (by rw [nI_clamp (by omega)]) ?_
        have hF := sr_fR hD hS hA
        refine va_calli (va_runV (As := [.int (xs (4 * j + 1)), .int (xs (4 * j + 2)), .int (xs (4 * j + 3))]) (rest := [.int rx]) ⟨hx, hb, hml, hown, hts⟩ (sr_X2_first l D cI cB cM ay H.size g hg wm hM ((sr_Dr hD).weaken (fun _ _ _ _ => trivial)) (xs (4 * j + 1)) (xs (4 * j + 2)) (xs (4 * j + 3))) (cwV 3 hts (lw_V q214 q215 q216 q10 q217) rfl rfl rfl (by decide +kernel) ⟨Nat.le_of_ble_eq_true rfl, Nat.le_of_ble_eq_true rfl⟩) (sr_preV hKK ⟨rfl, sr_Pr hP⟩ (va_recv hKK.1 (sr_Pr hP) (ci := 2) (q0 := 0) rfl hm0)) rfl rfl hl.1 rfl (lv_room (Nat.le_of_ble_eq_true rfl)) dL_law_119 ⟨(by show _ ≤ 600000; omega), (by show _ ≤ 7302250; omega)⟩) hS (fun q _ h => hF q h) hF (fun rm um t H1 locs ht hvm hwm hB hz1 hk1 hS => ?_)
        obtain ⟨hP1, hD1⟩ := hB
        rw [ht] at hP1
        obtain ⟨hP, hD⟩ := sr_jR hP hD hk1 hF hP1 hD1
        generalize H1 = H at hP hS ⊢
        refine lv_icmp_eq (tgt := 322) hx hb dL_law_122 (by decide) (fun c_ => ?_) (fun c_ => absurd (hwx.1.trans hwm.1.symm) c_)
        refine W.widen (k := 15 + (j + 1)) (n := 26035 + 4 * (j + 1)) (by omega) (by omega) ?_
        exact next (sr_sFirst g (xs (4 * j + 1)) (xs (4 * j + 2)) (xs (4 * j + 3))) ux um H locs (sr_OK_first hg _ _ _) hwx.2 hwm.2 hP hD hS
      · refine lv_tableIn (tgt := 127) (off := 95) hx hb dL_law_32 (by decide +kernel) (by decide +kernel) (by decide +kernel) (by decide) ?_
        refine lv_aload_n hx hb dL_law_127 rfl (lv_at hl 1 rfl) ?_
        refine lv_aload_n hx hb dL_law_128 rfl (lv_at hl 0 rfl) ?_
        refine lv_iload_n hx hb dL_law_129 rfl (lv_at hl 3 rfl) ?_
        refine lv_iconst (v := (nI 1)) hx hb dL_law_130 (by decide +kernel) ?_
        refine lv_iadd hx hb dL_law_131 ?_
        refine sr_ti (y := (nI (4 * j + 1))) (nI_add _ _) ?_
        refine va_sld hx hb hV hbl hbA hS (vp_in_nI (by omega) (by omega)) dL_law_132 ?_
        refine sr_ti (y := (xs (4 * j + 1))) (by rw [nI_clamp (by omega)]) ?_
        refine lv_aload_n hx hb dL_law_133 rfl (lv_at hl 0 rfl) ?_
        refine lv_iload_n hx hb dL_law_134 rfl (lv_at hl 3 rfl) ?_
        refine lv_iconst (v := (nI 2)) hx hb dL_law_135 (by decide +kernel) ?_
        refine lv_iadd hx hb dL_law_136 ?_
        refine sr_ti (y := (nI (4 * j + 2))) (nI_add _ _) ?_
        refine va_sld hx hb hV hbl hbA hS (vp_in_nI (by omega) (by omega)) dL_law_137 ?_
        refine sr_ti (y := (xs (4 * j + 2))) (by rw [nI_clamp (by omega)]) ?_
        refine lv_aload_n hx hb dL_law_138 rfl (lv_at hl 0 rfl) ?_
        refine lv_iload_n hx hb dL_law_139 rfl (lv_at hl 3 rfl) ?_
        refine lv_iconst (v := (nI 3)) hx hb dL_law_140 (by decide +kernel) ?_
        refine lv_iadd hx hb dL_law_141 ?_
        refine sr_ti (y := (nI (4 * j + 3))) (nI_add _ _) ?_
        refine va_sld hx hb hV hbl hbA hS (vp_in_nI (by omega) (by omega)) dL_law_142 ?_
        refine sr_ti (y := (xs (4 * j + 3))) (by rw [nI_clamp (by omega)]) ?_
        have hF := sr_fL hD hS hA
        refine va_calli (va_runV (As := [.int (xs (4 * j + 1)), .int (xs (4 * j + 2)), .int (xs (4 * j + 3))]) (rest := []) ⟨hx, hb, hml, hown, hts⟩ (sr_X0_last l D cI cB cM ax H.size g hg wx hX ((sr_Dl hD).weaken (fun _ _ _ _ => trivial)) (xs (4 * j + 1)) (xs (4 * j + 2)) (xs (4 * j + 3))) (cwV 3 hts (lw_V q78 q79 q80 q7 q81) rfl rfl rfl (by decide +kernel) ⟨Nat.le_of_ble_eq_true rfl, Nat.le_of_ble_eq_true rfl⟩) (sr_preV hKK ⟨rfl, sr_Pl hP⟩ (va_recv hKK.1 (sr_Pl hP) (ci := 0) (q0 := 0) rfl hx0)) rfl rfl hl.1 rfl (lv_room (Nat.le_of_ble_eq_true rfl)) dL_law_143 ⟨(by show _ ≤ 600000; omega), (by show _ ≤ 7302250; omega)⟩) hS (fun q _ h => hF q h) hF (fun rx ux t H1 locs ht hvm hwx hB hz1 hk1 hS => ?_)
        obtain ⟨hP1, hD1⟩ := hB
        rw [ht] at hP1
        obtain ⟨hP, hD⟩ := sr_jL hP hD hk1 hF hP1 hD1
        generalize H1 = H at hP hS ⊢
        refine lv_aload_n hx hb dL_law_146 rfl (lv_at hl 2 rfl) ?_
        refine lv_aload_n hx hb dL_law_147 rfl (lv_at hl 0 rfl) ?_
        refine lv_iload_n hx hb dL_law_148 rfl (lv_at hl 3 rfl) ?_
        refine lv_iconst (v := (nI 1)) hx hb dL_law_149 (by decide +kernel) ?_
        refine lv_iadd hx hb dL_law_150 ?_
        refine sr_ti (y := (nI (4 * j + 1))) (nI_add _ _) ?_
        refine va_sld hx hb hV hbl hbA hS (vp_in_nI (by omega) (by omega)) dL_law_151 ?_
        refine sr_ti (y := (xs (4 * j + 1))) (by rw [nI_clamp (by omega)]) ?_
        refine lv_aload_n hx hb dL_law_152 rfl (lv_at hl 0 rfl) ?_
        refine lv_iload_n hx hb dL_law_153 rfl (lv_at hl 3 rfl) ?_
        refine lv_iconst (v := (nI 2)) hx hb dL_law_154 (by decide +kernel) ?_
        refine lv_iadd hx hb dL_law_155 ?_
        refine sr_ti (y := (nI (4 * j + 2))) (nI_add _ _) ?_
        refine va_sld hx hb hV hbl hbA hS (vp_in_nI (by omega) (by omega)) dL_law_156 ?_
        refine sr_ti (y := (xs (4 * j + 2))) (by rw [nI_clamp (by omega)]) ?_
        refine lv_aload_n hx hb dL_law_157 rfl (lv_at hl 0 rfl) ?_
        refine lv_iload_n hx hb dL_law_158 rfl (lv_at hl 3 rfl) ?_
        refine lv_iconst (v := (nI 3)) hx hb dL_law_159 (by decide +kernel) ?_
        refine lv_iadd hx hb dL_law_160 ?_
        refine sr_ti (y := (nI (4 * j + 3))) (nI_add _ _) ?_
        refine va_sld hx hb hV hbl hbA hS (vp_in_nI (by omega) (by omega)) dL_law_161 ?_
        refine sr_ti (y := (xs (4 * j + 3))) (by rw [nI_clamp (by omega)]) ?_
        have hF := sr_fR hD hS hA
        refine va_calli (va_runV (As := [.int (xs (4 * j + 1)), .int (xs (4 * j + 2)), .int (xs (4 * j + 3))]) (rest := [.int rx]) ⟨hx, hb, hml, hown, hts⟩ (sr_X2_last l D cI cB cM ay H.size g hg wm hM ((sr_Dr hD).weaken (fun _ _ _ _ => trivial)) (xs (4 * j + 1)) (xs (4 * j + 2)) (xs (4 * j + 3))) (cwV 3 hts (lw_V q224 q225 q226 q10 q227) rfl rfl rfl (by decide +kernel) ⟨Nat.le_of_ble_eq_true rfl, Nat.le_of_ble_eq_true rfl⟩) (sr_preV hKK ⟨rfl, sr_Pr hP⟩ (va_recv hKK.1 (sr_Pr hP) (ci := 2) (q0 := 0) rfl hm0)) rfl rfl hl.1 rfl (lv_room (Nat.le_of_ble_eq_true rfl)) dL_law_162 ⟨(by show _ ≤ 600000; omega), (by show _ ≤ 7302250; omega)⟩) hS (fun q _ h => hF q h) hF (fun rm um t H1 locs ht hvm hwm hB hz1 hk1 hS => ?_)
        obtain ⟨hP1, hD1⟩ := hB
        rw [ht] at hP1
        obtain ⟨hP, hD⟩ := sr_jR hP hD hk1 hF hP1 hD1
        generalize H1 = H at hP hS ⊢
        refine lv_icmp_eq (tgt := 322) hx hb dL_law_165 (by decide) (fun c_ => ?_) (fun c_ => absurd (hwx.1.trans hwm.1.symm) c_)
        refine W.widen (k := 15 + (j + 1)) (n := 26035 + 4 * (j + 1)) (by omega) (by omega) ?_
        exact next (sr_sLast g (xs (4 * j + 1)) (xs (4 * j + 2)) (xs (4 * j + 3))) ux um H locs (sr_OK_last hg _ _ _) hwx.2 hwm.2 hP hD hS
      · refine lv_tableIn (tgt := 170) (off := 138) hx hb dL_law_32 (by decide +kernel) (by decide +kernel) (by decide +kernel) (by decide) ?_
        refine lv_aload_n hx hb dL_law_170 rfl (lv_at hl 1 rfl) ?_
        refine lv_aload_n hx hb dL_law_171 rfl (lv_at hl 0 rfl) ?_
        refine lv_iload_n hx hb dL_law_172 rfl (lv_at hl 3 rfl) ?_
        refine lv_iconst (v := (nI 1)) hx hb dL_law_173 (by decide +kernel) ?_
        refine lv_iadd hx hb dL_law_174 ?_
        refine sr_ti (y := (nI (4 * j + 1))) (nI_add _ _) ?_
        refine va_sld hx hb hV hbl hbA hS (vp_in_nI (by omega) (by omega)) dL_law_175 ?_
        refine sr_ti (y := (xs (4 * j + 1))) (by rw [nI_clamp (by omega)]) ?_
        refine lv_aload_n hx hb dL_law_176 rfl (lv_at hl 0 rfl) ?_
        refine lv_iload_n hx hb dL_law_177 rfl (lv_at hl 3 rfl) ?_
        refine lv_iconst (v := (nI 2)) hx hb dL_law_178 (by decide +kernel) ?_
        refine lv_iadd hx hb dL_law_179 ?_
        refine sr_ti (y := (nI (4 * j + 2))) (nI_add _ _) ?_
        refine va_sld hx hb hV hbl hbA hS (vp_in_nI (by omega) (by omega)) dL_law_180 ?_
        refine sr_ti (y := (xs (4 * j + 2))) (by rw [nI_clamp (by omega)]) ?_
        have hF := sr_fL hD hS hA
        refine va_calli (va_runV (As := [.int (xs (4 * j + 1)), .int (xs (4 * j + 2))]) (rest := []) ⟨hx, hb, hml, hown, hts⟩ (sr_X0_move l D cI cB cM ax H.size g hg wx hX ((sr_Dl hD).weaken (fun _ _ _ _ => trivial)) (xs (4 * j + 1)) (xs (4 * j + 2))) (cwV 2 hts (lw_V q82 q83 q84 q7 q85) rfl rfl rfl (by decide +kernel) ⟨Nat.le_of_ble_eq_true rfl, Nat.le_of_ble_eq_true rfl⟩) (sr_preV hKK ⟨rfl, sr_Pl hP⟩ (va_recv hKK.1 (sr_Pl hP) (ci := 0) (q0 := 0) rfl hx0)) rfl rfl hl.1 rfl (lv_room (Nat.le_of_ble_eq_true rfl)) dL_law_181 ⟨(by show _ ≤ 600000; omega), (by show _ ≤ 7302250; omega)⟩) hS (fun q _ h => hF q h) hF (fun rx ux t H1 locs ht hvm hwx hB hz1 hk1 hS => ?_)
        obtain ⟨hP1, hD1⟩ := hB
        rw [ht] at hP1
        obtain ⟨hP, hD⟩ := sr_jL hP hD hk1 hF hP1 hD1
        generalize H1 = H at hP hS ⊢
        refine lv_aload_n hx hb dL_law_184 rfl (lv_at hl 2 rfl) ?_
        refine lv_aload_n hx hb dL_law_185 rfl (lv_at hl 0 rfl) ?_
        refine lv_iload_n hx hb dL_law_186 rfl (lv_at hl 3 rfl) ?_
        refine lv_iconst (v := (nI 1)) hx hb dL_law_187 (by decide +kernel) ?_
        refine lv_iadd hx hb dL_law_188 ?_
        refine sr_ti (y := (nI (4 * j + 1))) (nI_add _ _) ?_
        refine va_sld hx hb hV hbl hbA hS (vp_in_nI (by omega) (by omega)) dL_law_189 ?_
        refine sr_ti (y := (xs (4 * j + 1))) (by rw [nI_clamp (by omega)]) ?_
        refine lv_aload_n hx hb dL_law_190 rfl (lv_at hl 0 rfl) ?_
        refine lv_iload_n hx hb dL_law_191 rfl (lv_at hl 3 rfl) ?_
        refine lv_iconst (v := (nI 2)) hx hb dL_law_192 (by decide +kernel) ?_
        refine lv_iadd hx hb dL_law_193 ?_
        refine sr_ti (y := (nI (4 * j + 2))) (nI_add _ _) ?_
        refine va_sld hx hb hV hbl hbA hS (vp_in_nI (by omega) (by omega)) dL_law_194 ?_
        refine sr_ti (y := (xs (4 * j + 2))) (by rw [nI_clamp (by omega)]) ?_
        have hF := sr_fR hD hS hA
        refine va_calli (va_runV (As := [.int (xs (4 * j + 1)), .int (xs (4 * j + 2))]) (rest := [.int rx]) ⟨hx, hb, hml, hown, hts⟩ (sr_X2_move l D cI cB cM ay H.size g hg wm hM ((sr_Dr hD).weaken (fun _ _ _ _ => trivial)) (xs (4 * j + 1)) (xs (4 * j + 2))) (cwV 2 hts (lw_V q228 q229 q230 q10 q231) rfl rfl rfl (by decide +kernel) ⟨Nat.le_of_ble_eq_true rfl, Nat.le_of_ble_eq_true rfl⟩) (sr_preV hKK ⟨rfl, sr_Pr hP⟩ (va_recv hKK.1 (sr_Pr hP) (ci := 2) (q0 := 0) rfl hm0)) rfl rfl hl.1 rfl (lv_room (Nat.le_of_ble_eq_true rfl)) dL_law_195 ⟨(by show _ ≤ 600000; omega), (by show _ ≤ 7302250; omega)⟩) hS (fun q _ h => hF q h) hF (fun rm um t H1 locs ht hvm hwm hB hz1 hk1 hS => ?_)
        obtain ⟨hP1, hD1⟩ := hB
        rw [ht] at hP1
        obtain ⟨hP, hD⟩ := sr_jR hP hD hk1 hF hP1 hD1
        generalize H1 = H at hP hS ⊢
        obtain ⟨gx, hpx, hXx⟩ := hwx
        obtain ⟨gm, hpm, hMm⟩ := hwm
        obtain ⟨erm, egm⟩ := sr_pMove_det hpx hpm
        subst egm
        refine lv_icmp_eq (tgt := 322) hx hb dL_law_198 (by decide) (fun c_ => ?_) (fun c_ => absurd (erm) c_)
        refine W.widen (k := 15 + (j + 1)) (n := 26035 + 4 * (j + 1)) (by omega) (by omega) ?_
        exact next gx ux um H locs (sr_OK_pMove hg hpx) hXx hMm hP hD hS
      · refine lv_tableIn (tgt := 203) (off := 171) hx hb dL_law_32 (by decide +kernel) (by decide +kernel) (by decide +kernel) (by decide) ?_
        refine lv_aload_n hx hb dL_law_203 rfl (lv_at hl 1 rfl) ?_
        refine lv_aload_n hx hb dL_law_204 rfl (lv_at hl 0 rfl) ?_
        refine lv_iload_n hx hb dL_law_205 rfl (lv_at hl 3 rfl) ?_
        refine lv_iconst (v := (nI 1)) hx hb dL_law_206 (by decide +kernel) ?_
        refine lv_iadd hx hb dL_law_207 ?_
        refine sr_ti (y := (nI (4 * j + 1))) (nI_add _ _) ?_
        refine va_sld hx hb hV hbl hbA hS (vp_in_nI (by omega) (by omega)) dL_law_208 ?_
        refine sr_ti (y := (xs (4 * j + 1))) (by rw [nI_clamp (by omega)]) ?_
        have hF := sr_fL hD hS hA
        refine va_calli (va_runV (As := [.int (xs (4 * j + 1))]) (rest := []) ⟨hx, hb, hml, hown, hts⟩ (sr_X0_back l D cI cB cM ax H.size g hg wx hX ((sr_Dl hD).weaken (fun _ _ _ _ => trivial)) (xs (4 * j + 1))) (cwV 1 hts (lw_V q143 q144 q145 q7 q146) rfl rfl rfl (by decide +kernel) ⟨Nat.le_of_ble_eq_true rfl, Nat.le_of_ble_eq_true rfl⟩) (sr_preV hKK ⟨rfl, sr_Pl hP⟩ (va_recv hKK.1 (sr_Pl hP) (ci := 0) (q0 := 0) rfl hx0)) rfl rfl hl.1 rfl (lv_room (Nat.le_of_ble_eq_true rfl)) dL_law_209 ⟨(by show _ ≤ 600000; omega), (by show _ ≤ 7302250; omega)⟩) hS (fun q _ h => hF q h) hF (fun rx ux t H1 locs ht hvm hwx hB hz1 hk1 hS => ?_)
        obtain ⟨hP1, hD1⟩ := hB
        rw [ht] at hP1
        obtain ⟨hP, hD⟩ := sr_jL hP hD hk1 hF hP1 hD1
        generalize H1 = H at hP hS ⊢
        refine lv_aload_n hx hb dL_law_212 rfl (lv_at hl 2 rfl) ?_
        refine lv_aload_n hx hb dL_law_213 rfl (lv_at hl 0 rfl) ?_
        refine lv_iload_n hx hb dL_law_214 rfl (lv_at hl 3 rfl) ?_
        refine lv_iconst (v := (nI 1)) hx hb dL_law_215 (by decide +kernel) ?_
        refine lv_iadd hx hb dL_law_216 ?_
        refine sr_ti (y := (nI (4 * j + 1))) (nI_add _ _) ?_
        refine va_sld hx hb hV hbl hbA hS (vp_in_nI (by omega) (by omega)) dL_law_217 ?_
        refine sr_ti (y := (xs (4 * j + 1))) (by rw [nI_clamp (by omega)]) ?_
        have hF := sr_fR hD hS hA
        refine va_calli (va_runV (As := [.int (xs (4 * j + 1))]) (rest := [.int rx]) ⟨hx, hb, hml, hown, hts⟩ (sr_X2_back l D cI cB cM ay H.size g hg wm hM ((sr_Dr hD).weaken (fun _ _ _ _ => trivial)) (xs (4 * j + 1))) (cwV 1 hts (lw_V q234 q235 q236 q10 q237) rfl rfl rfl (by decide +kernel) ⟨Nat.le_of_ble_eq_true rfl, Nat.le_of_ble_eq_true rfl⟩) (sr_preV hKK ⟨rfl, sr_Pr hP⟩ (va_recv hKK.1 (sr_Pr hP) (ci := 2) (q0 := 0) rfl hm0)) rfl rfl hl.1 rfl (lv_room (Nat.le_of_ble_eq_true rfl)) dL_law_218 ⟨(by show _ ≤ 600000; omega), (by show _ ≤ 7302250; omega)⟩) hS (fun q _ h => hF q h) hF (fun rm um t H1 locs ht hvm hwm hB hz1 hk1 hS => ?_)
        obtain ⟨hP1, hD1⟩ := hB
        rw [ht] at hP1
        obtain ⟨hP, hD⟩ := sr_jR hP hD hk1 hF hP1 hD1
        generalize H1 = H at hP hS ⊢
        obtain ⟨gx, hpx, hXx⟩ := hwx
        obtain ⟨gm, hpm, hMm⟩ := hwm
        obtain ⟨erm, egm⟩ := sr_pBack_det hpx hpm
        subst egm
        refine lv_icmp_eq (tgt := 322) hx hb dL_law_221 (by decide) (fun c_ => ?_) (fun c_ => absurd (erm) c_)
        refine W.widen (k := 15 + (j + 1)) (n := 26035 + 4 * (j + 1)) (by omega) (by omega) ?_
        exact next gx ux um H locs (sr_OK_pBack hg hpx) hXx hMm hP hD hS
      · refine lv_tableIn (tgt := 226) (off := 194) hx hb dL_law_32 (by decide +kernel) (by decide +kernel) (by decide +kernel) (by decide) ?_
        refine lv_aload_n hx hb dL_law_226 rfl (lv_at hl 1 rfl) ?_
        refine lv_aload_n hx hb dL_law_227 rfl (lv_at hl 0 rfl) ?_
        refine lv_iload_n hx hb dL_law_228 rfl (lv_at hl 3 rfl) ?_
        refine lv_iconst (v := (nI 1)) hx hb dL_law_229 (by decide +kernel) ?_
        refine lv_iadd hx hb dL_law_230 ?_
        refine sr_ti (y := (nI (4 * j + 1))) (nI_add _ _) ?_
        refine va_sld hx hb hV hbl hbA hS (vp_in_nI (by omega) (by omega)) dL_law_231 ?_
        refine sr_ti (y := (xs (4 * j + 1))) (by rw [nI_clamp (by omega)]) ?_
        have hF := sr_fL hD hS hA
        refine va_calli (va_runV (As := [.int (xs (4 * j + 1))]) (rest := []) ⟨hx, hb, hml, hown, hts⟩ (sr_X0_acceleration l D cI cB cM ax H.size g hg wx hX ((sr_Dl hD).weaken (fun _ _ _ _ => trivial)) (xs (4 * j + 1))) (cwV 1 hts (lw_V q147 q148 q149 q7 q150) rfl rfl rfl (by decide +kernel) ⟨Nat.le_of_ble_eq_true rfl, Nat.le_of_ble_eq_true rfl⟩) (sr_preV hKK ⟨rfl, sr_Pl hP⟩ (va_recv hKK.1 (sr_Pl hP) (ci := 0) (q0 := 0) rfl hx0)) rfl rfl hl.1 rfl (lv_room (Nat.le_of_ble_eq_true rfl)) dL_law_232 ⟨(by show _ ≤ 600000; omega), (by show _ ≤ 7302250; omega)⟩) hS (fun q _ h => hF q h) hF (fun rx ux t H1 locs ht hvm hwx hB hz1 hk1 hS => ?_)
        obtain ⟨hP1, hD1⟩ := hB
        rw [ht] at hP1
        obtain ⟨hP, hD⟩ := sr_jL hP hD hk1 hF hP1 hD1
        generalize H1 = H at hP hS ⊢
        refine lv_aload_n hx hb dL_law_235 rfl (lv_at hl 2 rfl) ?_
        refine lv_aload_n hx hb dL_law_236 rfl (lv_at hl 0 rfl) ?_
        refine lv_iload_n hx hb dL_law_237 rfl (lv_at hl 3 rfl) ?_
        refine lv_iconst (v := (nI 1)) hx hb dL_law_238 (by decide +kernel) ?_
        refine lv_iadd hx hb dL_law_239 ?_
        refine sr_ti (y := (nI (4 * j + 1))) (nI_add _ _) ?_
        refine va_sld hx hb hV hbl hbA hS (vp_in_nI (by omega) (by omega)) dL_law_240 ?_
        refine sr_ti (y := (xs (4 * j + 1))) (by rw [nI_clamp (by omega)]) ?_
        have hF := sr_fR hD hS hA
        refine va_calli (va_runV (As := [.int (xs (4 * j + 1))]) (rest := [.int rx]) ⟨hx, hb, hml, hown, hts⟩ (sr_X2_acceleration l D cI cB cM ay H.size g hg wm hM ((sr_Dr hD).weaken (fun _ _ _ _ => trivial)) (xs (4 * j + 1))) (cwV 1 hts (lw_V q238 q239 q240 q10 q241) rfl rfl rfl (by decide +kernel) ⟨Nat.le_of_ble_eq_true rfl, Nat.le_of_ble_eq_true rfl⟩) (sr_preV hKK ⟨rfl, sr_Pr hP⟩ (va_recv hKK.1 (sr_Pr hP) (ci := 2) (q0 := 0) rfl hm0)) rfl rfl hl.1 rfl (lv_room (Nat.le_of_ble_eq_true rfl)) dL_law_241 ⟨(by show _ ≤ 600000; omega), (by show _ ≤ 7302250; omega)⟩) hS (fun q _ h => hF q h) hF (fun rm um t H1 locs ht hvm hwm hB hz1 hk1 hS => ?_)
        obtain ⟨hP1, hD1⟩ := hB
        rw [ht] at hP1
        obtain ⟨hP, hD⟩ := sr_jR hP hD hk1 hF hP1 hD1
        generalize H1 = H at hP hS ⊢
        obtain ⟨gx, hpx, hXx⟩ := hwx
        obtain ⟨gm, hpm, hMm⟩ := hwm
        obtain ⟨erm, egm⟩ := sr_pAcc_det hpx hpm
        subst egm
        refine lv_icmp_eq (tgt := 322) hx hb dL_law_244 (by decide) (fun c_ => ?_) (fun c_ => absurd (erm) c_)
        refine W.widen (k := 15 + (j + 1)) (n := 26035 + 4 * (j + 1)) (by omega) (by omega) ?_
        exact next gx ux um H locs (sr_OK_pAcc hg hpx) hXx hMm hP hD hS
      · refine lv_tableIn (tgt := 249) (off := 217) hx hb dL_law_32 (by decide +kernel) (by decide +kernel) (by decide +kernel) (by decide) ?_
        refine lv_aload_n hx hb dL_law_249 rfl (lv_at hl 1 rfl) ?_
        refine lv_aload_n hx hb dL_law_250 rfl (lv_at hl 0 rfl) ?_
        refine lv_iload_n hx hb dL_law_251 rfl (lv_at hl 3 rfl) ?_
        refine lv_iconst (v := (nI 1)) hx hb dL_law_252 (by decide +kernel) ?_
        refine lv_iadd hx hb dL_law_253 ?_
        refine sr_ti (y := (nI (4 * j + 1))) (nI_add _ _) ?_
        refine va_sld hx hb hV hbl hbA hS (vp_in_nI (by omega) (by omega)) dL_law_254 ?_
        refine sr_ti (y := (xs (4 * j + 1))) (by rw [nI_clamp (by omega)]) ?_
        obtain ⟨am, ai, ar, aq, sf, sl, fm, li, ri, sp, dn, pl, rfl, i1, i2, i3, i4, i5, i6⟩ := id hX
        have hPl := (sr_Pl hP).sub (ws' := [(ax, .inr (0, [.ref am, .ref ai, .ref ar, .ref aq, .int (nI g.1), .int (nI g.2.1), .ref sf, .ref sl, .int dn])), (ai, .inl (cI, 2001, .inl li))]) [0, 2] rfl
        refine vp_callSi (W.runV (As := [.int (xs (4 * j + 1))]) (rest := []) ⟨hx, hb, hml, hown, hts⟩ (sr_X0_limit l D cI cB cM ax ai (.ref am) (.ref ar) (.ref aq) (.int (nI g.2.1)) (.ref sf) (.ref sl) (.int dn) li g hg.1 i4 (xs (4 * j + 1))) (cwV 1 hts (lw_V q151 q152 q153 q7 q154) rfl rfl rfl (by decide +kernel) ⟨Nat.le_of_ble_eq_true rfl, Nat.le_of_ble_eq_true rfl⟩) (sr_preV hKK hPl (va_recv hKK.1 hPl (ci := 0) (q0 := 0) rfl rfl)) rfl rfl hl.1 rfl (lv_room (Nat.le_of_ble_eq_true rfl)) dL_law_255 ⟨(by show _ ≤ 600000; omega), (by show _ ≤ 7302250; omega)⟩) (fun rx hrx => ?_)
        refine lv_aload_n hx hb dL_law_258 rfl (lv_at hl 2 rfl) ?_
        refine lv_aload_n hx hb dL_law_259 rfl (lv_at hl 0 rfl) ?_
        refine lv_iload_n hx hb dL_law_260 rfl (lv_at hl 3 rfl) ?_
        refine lv_iconst (v := (nI 1)) hx hb dL_law_261 (by decide +kernel) ?_
        refine lv_iadd hx hb dL_law_262 ?_
        refine sr_ti (y := (nI (4 * j + 1))) (nI_add _ _) ?_
        refine va_sld hx hb hV hbl hbA hS (vp_in_nI (by omega) (by omega)) dL_law_263 ?_
        refine sr_ti (y := (xs (4 * j + 1))) (by rw [nI_clamp (by omega)]) ?_
        obtain ⟨bt, be, bf, bl, b1, b2, bq, tk, fe, fi, la, f1, l1, sq, kn, rfl, k1, k2, k3, k4, k5, k6, k7⟩ := id hM
        have hPm := (sr_Pr hP).sub (ws' := [(ay, .inr (2, [.ref bt, .ref be, .ref bf, .ref bl, .ref b1, .ref b2, .int (nI g.1), .int (nI g.2.1), .ref bq, .int kn])), (be, .inl (cI, 2000, .inl fe)), (bf, .inl (cB, 6000, .inl fi)), (bl, .inl (cB, 6000, .inl la))]) [0, 2, 3, 4] rfl
        refine vp_callSi (W.runV (As := [.int (xs (4 * j + 1))]) (rest := [.int rx]) ⟨hx, hb, hml, hown, hts⟩ (sr_X2_limit l D cI cB cM ay be bf bl (.ref bt) (.ref b1) (.ref b2) (.int (nI g.2.1)) (.ref bq) (.int kn) fe fi la g hg k2 k3 k4 (xs (4 * j + 1))) (cwV 1 hts (lw_V q242 q243 q244 q10 q245) rfl rfl rfl (by decide +kernel) ⟨Nat.le_of_ble_eq_true rfl, Nat.le_of_ble_eq_true rfl⟩) (sr_preV hKK hPm (va_recv hKK.1 hPm (ci := 2) (q0 := 0) rfl rfl)) rfl rfl hl.1 rfl (lv_room (Nat.le_of_ble_eq_true rfl)) dL_law_264 ⟨(by show _ ≤ 600000; omega), (by show _ ≤ 7302250; omega)⟩) (fun rm hrm => ?_)
        refine lv_icmp_eq (tgt := 322) hx hb dL_law_267 (by decide) (fun c_ => ?_) (fun c_ => absurd (sr_pLim_det hrx hrm) c_)
        refine W.widen (k := 15 + (j + 1)) (n := 26035 + 4 * (j + 1)) (by omega) (by omega) ?_
        exact next g _ _ H locs hg hX hM hP hD hS
      · refine lv_tableIn (tgt := 272) (off := 240) hx hb dL_law_32 (by decide +kernel) (by decide +kernel) (by decide +kernel) (by decide) ?_
        refine lv_aload_n hx hb dL_law_272 rfl (lv_at hl 1 rfl) ?_
        refine lv_aload_n hx hb dL_law_273 rfl (lv_at hl 0 rfl) ?_
        refine lv_iload_n hx hb dL_law_274 rfl (lv_at hl 3 rfl) ?_
        refine lv_iconst (v := (nI 1)) hx hb dL_law_275 (by decide +kernel) ?_
        refine lv_iadd hx hb dL_law_276 ?_
        refine sr_ti (y := (nI (4 * j + 1))) (nI_add _ _) ?_
        refine va_sld hx hb hV hbl hbA hS (vp_in_nI (by omega) (by omega)) dL_law_277 ?_
        refine sr_ti (y := (xs (4 * j + 1))) (by rw [nI_clamp (by omega)]) ?_
        have hF := sr_fL hD hS hA
        refine va_calli (va_runV (As := [.int (xs (4 * j + 1))]) (rest := []) ⟨hx, hb, hml, hown, hts⟩ (sr_X0_speed l D cI cB cM ax H.size g hg wx hX ((sr_Dl hD).weaken (fun _ _ _ _ => trivial)) (xs (4 * j + 1))) (cwV 1 hts (lw_V q159 q160 q161 q7 q162) rfl rfl rfl (by decide +kernel) ⟨Nat.le_of_ble_eq_true rfl, Nat.le_of_ble_eq_true rfl⟩) (sr_preV hKK ⟨rfl, sr_Pl hP⟩ (va_recv hKK.1 (sr_Pl hP) (ci := 0) (q0 := 0) rfl hx0)) rfl rfl hl.1 rfl (lv_room (Nat.le_of_ble_eq_true rfl)) dL_law_278 ⟨(by show _ ≤ 600000; omega), (by show _ ≤ 7302250; omega)⟩) hS (fun q _ h => hF q h) hF (fun rx ux t H1 locs ht hvm hwx hB hz1 hk1 hS => ?_)
        obtain ⟨hP1, hD1⟩ := hB
        rw [ht] at hP1
        obtain ⟨hP, hD⟩ := sr_jL hP hD hk1 hF hP1 hD1
        generalize H1 = H at hP hS ⊢
        refine lv_aload_n hx hb dL_law_281 rfl (lv_at hl 2 rfl) ?_
        refine lv_aload_n hx hb dL_law_282 rfl (lv_at hl 0 rfl) ?_
        refine lv_iload_n hx hb dL_law_283 rfl (lv_at hl 3 rfl) ?_
        refine lv_iconst (v := (nI 1)) hx hb dL_law_284 (by decide +kernel) ?_
        refine lv_iadd hx hb dL_law_285 ?_
        refine sr_ti (y := (nI (4 * j + 1))) (nI_add _ _) ?_
        refine va_sld hx hb hV hbl hbA hS (vp_in_nI (by omega) (by omega)) dL_law_286 ?_
        refine sr_ti (y := (xs (4 * j + 1))) (by rw [nI_clamp (by omega)]) ?_
        have hF := sr_fR hD hS hA
        refine va_calli (va_runV (As := [.int (xs (4 * j + 1))]) (rest := [.int rx]) ⟨hx, hb, hml, hown, hts⟩ (sr_X2_speed l D cI cB cM ay H.size g hg wm hM ((sr_Dr hD).weaken (fun _ _ _ _ => trivial)) (xs (4 * j + 1))) (cwV 1 hts (lw_V q248 q249 q250 q10 q251) rfl rfl rfl (by decide +kernel) ⟨Nat.le_of_ble_eq_true rfl, Nat.le_of_ble_eq_true rfl⟩) (sr_preV hKK ⟨rfl, sr_Pr hP⟩ (va_recv hKK.1 (sr_Pr hP) (ci := 2) (q0 := 0) rfl hm0)) rfl rfl hl.1 rfl (lv_room (Nat.le_of_ble_eq_true rfl)) dL_law_287 ⟨(by show _ ≤ 600000; omega), (by show _ ≤ 7302250; omega)⟩) hS (fun q _ h => hF q h) hF (fun rm um t H1 locs ht hvm hwm hB hz1 hk1 hS => ?_)
        obtain ⟨hP1, hD1⟩ := hB
        rw [ht] at hP1
        obtain ⟨hP, hD⟩ := sr_jR hP hD hk1 hF hP1 hD1
        generalize H1 = H at hP hS ⊢
        refine lv_icmp_eq (tgt := 322) hx hb dL_law_290 (by decide) (fun c_ => ?_) (fun c_ => absurd (sr_pSpd_det hwx.1 hwm.1) c_)
        refine W.widen (k := 15 + (j + 1)) (n := 26035 + 4 * (j + 1)) (by omega) (by omega) ?_
        exact next g ux um H locs hg hwx.2 hwm.2 hP hD hS
      · refine lv_tableIn (tgt := 295) (off := 263) hx hb dL_law_32 (by decide +kernel) (by decide +kernel) (by decide +kernel) (by decide) ?_
        refine lv_aload_n hx hb dL_law_295 rfl (lv_at hl 1 rfl) ?_
        have hF := sr_fL hD hS hA
        refine va_calll (va_runV (As := []) (rest := []) ⟨hx, hb, hml, hown, hts⟩ (sr_X0_sum l D cI cB cM ax H.size g hg wx hX ((sr_Dl hD).weaken (fun _ _ _ _ => trivial)) ) (cwV 0 hts (lw_V q167 q168 q169 q7 q170) rfl rfl rfl (by decide +kernel) ⟨Nat.le_of_ble_eq_true rfl, Nat.le_of_ble_eq_true rfl⟩) (sr_preV hKK ⟨rfl, sr_Pl hP⟩ (va_recv hKK.1 (sr_Pl hP) (ci := 0) (q0 := 0) rfl hx0)) rfl rfl hl.1 rfl (lv_room (Nat.le_of_ble_eq_true rfl)) dL_law_296 ⟨(by show _ ≤ 600000; omega), (by show _ ≤ 7302250; omega)⟩) hS (fun q _ h => hF q h) hF (fun rx ux t H1 locs ht hvm hwx hB hz1 hk1 hS => ?_)
        obtain ⟨hP1, hD1⟩ := hB
        rw [ht] at hP1
        obtain ⟨hP, hD⟩ := sr_jL hP hD hk1 hF hP1 hD1
        generalize H1 = H at hP hS ⊢
        refine lv_aload_n hx hb dL_law_299 rfl (lv_at hl 2 rfl) ?_
        have hF := sr_fR hD hS hA
        refine va_calll (va_runV (As := []) (rest := [.long rx]) ⟨hx, hb, hml, hown, hts⟩ (sr_X2_sum l D cI cB cM ay H.size g hg wm hM ((sr_Dr hD).weaken (fun _ _ _ _ => trivial)) ) (cwV 0 hts (lw_V q270 q271 q272 q10 q273) rfl rfl rfl (by decide +kernel) ⟨Nat.le_of_ble_eq_true rfl, Nat.le_of_ble_eq_true rfl⟩) (sr_preV hKK ⟨rfl, sr_Pr hP⟩ (va_recv hKK.1 (sr_Pr hP) (ci := 2) (q0 := 0) rfl hm0)) rfl rfl hl.1 rfl (lv_room (Nat.le_of_ble_eq_true rfl)) dL_law_300 ⟨(by show _ ≤ 600000; omega), (by show _ ≤ 7302250; omega)⟩) hS (fun q _ h => hF q h) hF (fun rm um t H1 locs ht hvm hwm hB hz1 hk1 hS => ?_)
        obtain ⟨hP1, hD1⟩ := hB
        rw [ht] at hP1
        obtain ⟨hP, hD⟩ := sr_jR hP hD hk1 hF hP1 hD1
        generalize H1 = H at hP hS ⊢
        refine W.lcmp hx hb dL_law_303 ?_
        refine sr_ti (y := 0) (by rw [hwx.1, hwm.1]; exact sr_lcmp_self _) ?_
        refine lv_if_eq (tgt := 322) hx hb dL_law_304 (by decide) (fun c_ => ?_) (fun c_ => absurd (rfl) c_)
        refine W.widen (k := 15 + (j + 1)) (n := 26035 + 4 * (j + 1)) (by omega) (by omega) ?_
        exact next g ux um H locs hg hwx.2 hwm.2 hP hD hS
      · refine lv_tableIn (tgt := 309) (off := 277) hx hb dL_law_32 (by decide +kernel) (by decide +kernel) (by decide +kernel) (by decide) ?_
        refine lv_aload_n hx hb dL_law_309 rfl (lv_at hl 1 rfl) ?_
        have hF := sr_fL hD hS hA
        refine va_calli (va_runV (As := []) (rest := []) ⟨hx, hb, hml, hown, hts⟩ (sr_X0_below l D cI cB cM ax H.size g hg wx hX ((sr_Dl hD).weaken (fun _ _ _ _ => trivial)) ) (cwV 0 hts (lw_V q171 q172 q173 q7 q174) rfl rfl rfl (by decide +kernel) ⟨Nat.le_of_ble_eq_true rfl, Nat.le_of_ble_eq_true rfl⟩) (sr_preV hKK ⟨rfl, sr_Pl hP⟩ (va_recv hKK.1 (sr_Pl hP) (ci := 0) (q0 := 0) rfl hx0)) rfl rfl hl.1 rfl (lv_room (Nat.le_of_ble_eq_true rfl)) dL_law_310 ⟨(by show _ ≤ 600000; omega), (by show _ ≤ 7302250; omega)⟩) hS (fun q _ h => hF q h) hF (fun rx ux t H1 locs ht hvm hwx hB hz1 hk1 hS => ?_)
        obtain ⟨hP1, hD1⟩ := hB
        rw [ht] at hP1
        obtain ⟨hP, hD⟩ := sr_jL hP hD hk1 hF hP1 hD1
        generalize H1 = H at hP hS ⊢
        refine lv_aload_n hx hb dL_law_313 rfl (lv_at hl 2 rfl) ?_
        have hF := sr_fR hD hS hA
        refine va_calli (va_runV (As := []) (rest := [.int rx]) ⟨hx, hb, hml, hown, hts⟩ (sr_X2_below l D cI cB cM ay H.size g hg wm hM ((sr_Dr hD).weaken (fun _ _ _ _ => trivial)) ) (cwV 0 hts (lw_V q274 q275 q276 q10 q277) rfl rfl rfl (by decide +kernel) ⟨Nat.le_of_ble_eq_true rfl, Nat.le_of_ble_eq_true rfl⟩) (sr_preV hKK ⟨rfl, sr_Pr hP⟩ (va_recv hKK.1 (sr_Pr hP) (ci := 2) (q0 := 0) rfl hm0)) rfl rfl hl.1 rfl (lv_room (Nat.le_of_ble_eq_true rfl)) dL_law_314 ⟨(by show _ ≤ 600000; omega), (by show _ ≤ 7302250; omega)⟩) hS (fun q _ h => hF q h) hF (fun rm um t H1 locs ht hvm hwm hB hz1 hk1 hS => ?_)
        obtain ⟨hP1, hD1⟩ := hB
        rw [ht] at hP1
        obtain ⟨hP, hD⟩ := sr_jR hP hD hk1 hF hP1 hD1
        generalize H1 = H at hP hS ⊢
        refine lv_icmp_eq (tgt := 322) hx hb dL_law_317 (by decide) (fun c_ => ?_) (fun c_ => absurd (hwx.1.trans hwm.1.symm) c_)
        refine W.widen (k := 15 + (j + 1)) (n := 26035 + 4 * (j + 1)) (by omega) (by omega) ?_
        exact next g ux um H locs hg hwx.2 hwm.2 hP hD hS
      · refine lv_tableOut (tgt := 322) hx hb dL_law_32 (Or.inr (by rw [nI_toInt (by omega)]; omega)) (by decide) ?_
        refine W.widen (k := 15 + (j + 1)) (n := 26035 + 4 * (j + 1)) (by omega) (by omega) ?_
        exact next g wx wm H locs hg hX hM hP hD hS
set_option maxHeartbeats 4000000 in
set_option maxRecDepth 100000 in
/-- THE LAW, from its entry -/
theorem whole_start {p : Program} {e : Env} {s : State} {m : MethodId} {below : List Frame} {meth : Method} {c : Code} (l : Launch) {b L : Nat} {xs : Nat → Int32} (hL : L ≤ 256) (C0 : lw_At p s m meth c b L xs) : W p l e room_1 s m #[Value.ref b] below meth c s.heap [] 0 0 (lw_Z below #[Value.ref b] s) (entryFrame m ([Value.ref b] : List Value).toArray 4) := by
  obtain ⟨hx, hb, hr, hml, hown, hts0, hV, hbl, hlocks, hgv⟩ := id C0
  have hts : ∀ w ∈ lw_all, w.before #[Value.ref b] s = true := fun w h => hts0 w (lw_all_tbl h)
  have hA : ∀ q : Nat, s.heap.size ≤ q → (fun q : Nat => s.heap.size ≤ q) q := fun _ h => h
  obtain ⟨c0_, iS0, hKn0⟩ := u_known (C := RX0) (T := TX0) (N := 9) (n := 9) hts in_X0 (hts _ q14)
  obtain ⟨c1_, iS1, hKn1⟩ := u_known (C := RX1) (T := TX1) (N := 3) (n := 3) hts in_X1 (hts _ q24)
  obtain ⟨c2_, iS2, hKn2⟩ := u_known (C := RX2) (T := TX2) (N := 10) (n := 10) hts in_X2 (hts _ q177)
  obtain ⟨c3_, iS3, hKn3⟩ := u_known (C := RX3) (T := TX3) (N := 4) (n := 4) hts in_X3 (hts _ q88)
  obtain ⟨dC, dI, hKc⟩ : ∃ (dC : Nat → ClassId) (dI : Nat → Nat → Nat), ∀ (k : Nat) (q : vw_C), vwCl[k]? = some q → u_Kn s q.1 q.2.1 q.2.2 (dC k) (dI k) := by
    refine ⟨fun k => if k = 0 then c0_ else if k = 1 then c1_ else if k = 2 then c2_ else c3_, fun k => if k = 0 then iS0 else if k = 1 then iS1 else if k = 2 then iS2 else iS3, ?_⟩
    intro k q hq
    match k, hq with
    | 0, hq => cases hq; exact hKn0
    | 1, hq => cases hq; exact hKn1
    | 2, hq => cases hq; exact hKn2
    | 3, hq => cases hq; exact hKn3
    | k + 4, hq => simp [vwCl] at hq
  have hAO : va_AO RX3 s := va_AO.of (hts0 _ q22)
  obtain ⟨cI, a1, a2⟩ := sr_K_int (hts _ q42)
  obtain ⟨cB, a3, a4⟩ := sr_K_byte (hts _ q213)
  obtain ⟨cM, a5, a6⟩ := sr_K_obj hAO
  have hK : va_K (dC, dI) vwCl (sr_tys cI cB cM) s := by
    refine ⟨hKc, fun k q h => ?_⟩
    match k, h with
    | 0, h => cases h; exact ⟨a1, a2⟩
    | 1, h => cases h; exact ⟨a3, a4⟩
    | 2, h => cases h; exact ⟨a5, a6⟩
    | k + 3, h => simp [sr_tys] at h
  have hKK : sr_KK (dC, dI) cI cB cM s := ⟨hK, hAO, va_Nw.of rfl (hts0 _ q25), va_Nw.of rfl (hts0 _ q89)⟩
  obtain ⟨D, hDe⟩ : ∃ D : va_G, D = (dC, dI) := ⟨_, rfl⟩
  rw [← hDe] at hKK
  have hS : va_S (fun q : Nat => s.heap.size ≤ q) s.heap s.heap [] := va_S.rf
  have hP : va_P D vwCl [] s.heap := sr_P0
  have hD : va_D (fun q : Nat => s.heap.size ≤ q) [] := ⟨fun i j p q h => by simp at h, fun k q h => by simp at h⟩
  have hl := lv_entry ([.ref b]) (n := 4) (Nat.le_of_ble_eq_true rfl)
  rw [lg_entry_eq]
  generalize (lg_sl ([.ref b]) ++ List.replicate (4 - (lg_sl ([.ref b])).length) Slot.unset).toArray = ls at hl ⊢
  have hl : lv_has ls 4 [(0, .ref b)] := hl
  refine va_new (ci := 0) (fs := [.null, .null, .null, .null, .int 0, .int 0, .null, .null, .int 0]) (C := RX0) (T := TX0) (N := 9) hx hb hts in_X0 tyX0 tyX0_ok hown (hts _ q13) (hts _ q14) (hts _ q7) hKK.1 hP hD hS hA rfl (fun j hj => by rcases (show j = 0 ∨ j = 1 ∨ j = 2 ∨ j = 3 ∨ j = 4 ∨ j = 5 ∨ j = 6 ∨ j = 7 ∨ j = 8 by omega) with rfl | rfl | rfl | rfl | rfl | rfl | rfl | rfl | rfl <;> rfl) (Nat.le_of_ble_eq_true rfl) (Nat.le_of_ble_eq_true rfl) dL_law_0 (fun ax H hP hD hS => ?_)
  have hP : va_P D vwCl [(ax, .inr (0, [.null, .null, .null, .null, .int 0, .int 0, .null, .null, .int 0]))] H := hP
  have hD : va_D (fun q : Nat => s.heap.size ≤ q) [(ax, .inr (0, [.null, .null, .null, .null, .int 0, .int 0, .null, .null, .int 0]))] := hD
  refine W.widen (k := 1) (n := 9) (by omega) (by omega) ?_
  refine lv_dup hx hb dL_law_3 rfl ?_
  have hF := sr_fW hD hS hA
  refine va_callv (va_runI (As := []) (rest := [.ref ax]) ⟨hx, hb, hml, hown, hts⟩ (sr_X0_init l D cI cB cM ax H.size) (cwI 0 hts (lw_meth q17) rfl rfl rfl (hts _ q7) (hts _ q15) (hts _ q16) rfl (by decide +kernel) ⟨Nat.le_of_ble_eq_true rfl, Nat.le_of_ble_eq_true rfl⟩) (sr_preS hKK ⟨rfl, hP⟩) rfl rfl hl.1 rfl (lv_room (Nat.le_of_ble_eq_true rfl)) dL_law_4 ⟨Nat.le_of_ble_eq_true rfl, Nat.le_of_ble_eq_true rfl⟩) hS (fun q _ h => hF q h) hF (fun wx t H1 locs ht hvm hX hB hz1 hk1 hS => ?_)
  obtain ⟨hP1, hD1⟩ := hB
  rw [ht] at hP1
  have hD := hD1.weaken (B := (fun q : Nat => s.heap.size ≤ q)) (fun k q _ h => hF q.1 h)
  have hP := hP1
  generalize H1 = H at hP hS ⊢
  refine W.widen (k := 7) (n := 8018) (by omega) (by omega) ?_
  refine lv_astore_n (lv' := [(1, .ref ax), (0, .ref b)]) hx hb dL_law_7 rfl hl (by decide) rfl (fun ls hl => ?_)
  refine va_new (ci := 2) (fs := [.null, .null, .null, .null, .null, .null, .int 0, .int 0, .null, .int 0]) (C := RX2) (T := TX2) (N := 10) hx hb hts in_X2 tyX2 tyX2_ok hown (hts _ q176) (hts _ q177) (hts _ q10) hKK.1 hP hD hS hA rfl (fun j hj => by rcases (show j = 0 ∨ j = 1 ∨ j = 2 ∨ j = 3 ∨ j = 4 ∨ j = 5 ∨ j = 6 ∨ j = 7 ∨ j = 8 ∨ j = 9 by omega) with rfl | rfl | rfl | rfl | rfl | rfl | rfl | rfl | rfl | rfl <;> rfl) (Nat.le_of_ble_eq_true rfl) (Nat.le_of_ble_eq_true rfl) dL_law_8 (fun ay H hP hD hS => ?_)
  refine W.widen (k := 8) (n := 8028) (by omega) (by omega) ?_
  refine lv_dup hx hb dL_law_11 rfl ?_
  have hF := sr_fR hD hS hA
  refine va_callv (va_runI (As := []) (rest := [.ref ay]) ⟨hx, hb, hml, hown, hts⟩ (sr_X2_init l D cI cB cM ay H.size) (cwI 0 hts (lw_meth q180) rfl rfl rfl (hts _ q10) (hts _ q178) (hts _ q179) rfl (by decide +kernel) ⟨Nat.le_of_ble_eq_true rfl, Nat.le_of_ble_eq_true rfl⟩) (sr_preS hKK ⟨rfl, sr_Pr hP⟩) rfl rfl hl.1 rfl (lv_room (Nat.le_of_ble_eq_true rfl)) dL_law_12 ⟨Nat.le_of_ble_eq_true rfl, Nat.le_of_ble_eq_true rfl⟩) hS (fun q _ h => hF q h) hF (fun wm t H1 locs ht hvm hM hB hz1 hk1 hS => ?_)
  obtain ⟨hP1, hD1⟩ := hB
  rw [ht] at hP1
  obtain ⟨hP, hD⟩ := sr_jR hP hD hk1 hF hP1 hD1
  generalize H1 = H at hP hS ⊢
  refine W.widen (k := 15 + 0) (n := 26035 + 4 * 0) (by omega) (by omega) ?_
  refine lv_astore_n (lv' := [(2, .ref ay), (1, .ref ax), (0, .ref b)]) hx hb dL_law_15 rfl hl (by decide) rfl (fun ls hl => ?_)
  refine lv_iconst (v := (nI 0)) hx hb dL_law_16 (by decide +kernel) ?_
  refine lv_istore_n (lv' := [(3, .int (nI 0)), (2, .ref ay), (1, .ref ax), (0, .ref b)]) hx hb dL_law_17 rfl hl (by decide) rfl (fun ls hl => ?_)
  exact sr_loop l hL C0 hKK ax ay (L + 1) 0 sr_g0 wx wm H locs ls (by omega) (by omega) sr_g0_ok hX hM hP hD hS (lv_sub hl [3, 2, 1, 0] rfl)
end
section
set_option maxHeartbeats 4000000 in
theorem lw_walk (l : Launch) (b : Addr) (xs : List Int32) : MetFree l x (headSpec (Jvm.Cond.code x code maxLocals ret :: tables_1) room_1) (lw_P b xs) (fun _ _ _ _ _ => True) lw_Q := by
  refine MetFree.of_bodyS (code := code) (maxLocals := maxLocals) (ret := ret) (by decide) ?_ ?_
  · intro args s m h hn
    obtain ⟨meth, c, h1, h2, h3, h4, h5, h6, -, -⟩ := Cond.code_spec hn (atoms_spec (ws := Jvm.Cond.code x code maxLocals ret :: tables_1) h _ List.mem_cons_self)
    exact ⟨meth, c, h1, h2, h3, h4, h5, h6⟩
  · intro p e s m args below meth c s₁ B hml0 hP _
    obtain ⟨rfl, hx, hbd, hgv⟩ := hP
    obtain ⟨scr, harrAt, hlist, hof, hsmall⟩ := hx
    obtain ⟨hcb, hkn, -, -⟩ := State.arrayAt?_spec harrAt
    have hown : s.vm.findClass R_law = some m.cls := findClass_of_methodNamed B.named
    have hts0 : ∀ c ∈ (Jvm.Cond.code x code maxLocals ret :: tables_1), c.before #[Value.ref b] s = true := atoms_spec (ws := Jvm.Cond.code x code maxLocals ret :: tables_1) B.pre
    have hts : ∀ w ∈ lw_tbl, w.before #[Value.ref b] s = true := k2_hts_sels lw_privs (fun w hw => hts0 w (List.mem_cons_of_mem _ hw)) lw_privs_ok
    have hml : c.maxLocals = 4 := B.maxLocals_eq (hts0 _ List.mem_cons_self)
    have X₀ : Stand p l e room_1 s m #[Value.ref b] below meth c s₁ [] 0 0 := Stand.of_body B
    have hh0 : s₁.heap = s.heap := by rw [B.state]; rfl
    have hsz : scr.slots.size = xs.length := by rw [← Array.length_toList, hlist, List.length_map]
    have hval : ∀ j : Nat, j < xs.length → scr.slots[j]? = some (.int (xs.getD j 0)) := fun j hj => by
      rw [← Array.getElem?_toList, hlist]
      simp [hj]
    have hbl : b < s.heap.size := (Array.getElem?_eq_some_iff.mp hcb).1
    have hX : va_X b xs.length (fun j => xs.getD j 0) s s.heap := ⟨scr, hcb, hof, hkn, hsz, hval⟩
    have K : W p l e room_1 s m #[Value.ref b] below meth c s₁.heap [] 0 0 (lw_Z below #[Value.ref b] s) (entryFrame m ([Value.ref b] : List Value).toArray 4) := by
      rw [hh0]
      exact whole_start l hbd ⟨B.exec, B.bytes, B.returns, hml, hown, hts, hX, hbl, B.notSynchronized, hgv⟩
    obtain ⟨t, a1, o, b1, b2, b3⟩ := K s₁ rfl X₀
    exact ⟨t, o, a1, b1, b2, b3⟩
theorem lw_pre_spec {args : Array Value} {s : State} (h : (Jvm.Cond.and given_1 narrow_1).before args s = true) (hr : rest_1_c.before args s = true) : ∃ (b : Addr) (xs : List Int32), lw_P b xs args s := by
  have hs := flat_of_before _ h
  have hq := flat_of_before _ hr
  have hc : (Cond.count 1).before args s = true := hs _ (by decide +kernel)
  have harr : (Cond.arrayOf (.arg 0) .int).before args s = true := hs _ (by decide +kernel)
  have hle : (Cond.le (.length (.arg 0)) (.int 256)).before args s = true := hs _ (by decide +kernel)
  have hlen : (Cond.isInt (.length (.arg 0))).before args s = true := hq _ (by decide +kernel)
  have hall : (Cond.all (.arg 0) (.isInt (.elem (.arg 0) (.index 0)))).before args s = true := hq _ (by decide +kernel)
  obtain ⟨b, xs, hb, hx⟩ := State.ints_of_pre rfl harr hlen hall
  have hsm : xs.length < 2 ^ 31 := hx.choose_spec.2.2.2
  have hev : (Term.length (.arg 0)).eval args s none [] s = some (.int xs.length.toInt32) := hx.length_eval hb
  have hv := Cond.le_ints hev (show (Term.int 256).eval args s none [] s = some (.int 256) from rfl)
  have hd : xs.length.toInt32 ≤ 256 := by
    simpa [Cond.before, Cond.holds, hv] using hle
  have hN : xs.length ≤ 256 := (Int32.ofNat_le_ofNat hsm (by decide)).mp (show Int32.ofNat xs.length ≤ Int32.ofNat 256 from hd)
  exact ⟨b, xs, Cond.one_arg hc (show args[0]? = some (.ref b) from hb), hx, hN, h⟩
theorem lw_comes (l : Launch) : Comes l x (Jvm.Cond.code x code maxLocals ret :: tables_1) room_1 (fun tb e args s => Calls_1 tb e args s ∧ rest_1 tb e args s ∧ Pre_1 tb e args s)
    (fun _ _ args s o t => lw_Q args s o t) := by
  intro p e ha hc hk s m args below hf hfit hheap happ hpre
  obtain ⟨b, xs, hP⟩ := lw_pre_spec hpre.2.2 hpre.2.1
  obtain ⟨k, o, h1, h2, h3, hQ⟩ := lw_walk l b xs p e ha hc hk s m args below hf ((Spec.applies_iff_loose hf).mp happ).1 hP trivial
  exact ⟨k, o, h1, h2, h3, hQ⟩
theorem lw_frame {s t : State} {o : Outcome} {args : Array Value} (h : Framed s o t [] 600000 7302250) :
    Framed s o t (fieldLocs frame_1_writes args s ++ arrayLocs frame_1_arrays args s ++ staticLocs frame_1_statics s) 600000 7302250 := h
theorem lw_limb (L : Cond) (hL : ∀ (args : Array Value) (s t : State), L.after args s (.returned (some (.int 1))) t = true) :
    ArmFor flags0 classFile x code maxLocals ret World_1 tables_1 room_1 Calls_1 rest_1 Pre_1
      (fun tb e a s o t => postC L tb e a s o t ∧ Framed s o t (fieldLocs frame_1_writes a s ++ arrayLocs frame_1_arrays a s ++ staticLocs frame_1_statics s) 600000 7302250) := by
  intro l _ _ _ p e ha hc hk s m args below hf hfit hheap happ hpre
  obtain ⟨k, o, h1, h2, h3, rfl, hF⟩ := lw_comes l p e ha hc hk s m args below hf hfit hheap happ hpre
  exact ⟨k, _, h1, h2, h3, hL args s _, lw_frame hF⟩
theorem i_vc : Claimed_1_1 ∧ Claimed_1_2 := ⟨lw_limb limb_1_1 (fun args s t => by simp [limb_1_1, Cond.after, Cond.holds, Cond.value]), lw_limb limb_1_2 (fun args s t => Cond.after_iff.mpr (by
  first | (rw [show limb_1_2 = Cond.eq .result (.int 1) from rfl, Cond.eq_ints (x := 1) (y := 1) rfl rfl]; simp; done) | (simp [limb_1_2, Cond.value, Term.eval]; done)))⟩
end
