section
-- ===== PART A: goes FIRST, ahead of the names: the tables' words, and 'selects' of the private methods out of them =====
/-- a private method of a class that the tables say can be made, by its rows of tables_1 -/
def lw_okq (q : MethodName × Nat) : Prop := (q.1.cls ≠ "java/lang/invoke/MethodHandle" ∧ q.1.cls ≠ "java/lang/invoke/VarHandle") ∧ Cond.instantiable q.1.cls q.2 ∈ tables_1 ∧ Cond.privateMethod q.1 ∈ tables_1 ∧ Cond.instanceMethod q.1 ∈ tables_1
set_option maxRecDepth 100000
theorem lw_t1 {w : Cond} (h : w ∈ tables_1_1) : w ∈ tables_1 := List.mem_append_left _ h
theorem lw_t2 {w : Cond} (h : w ∈ tables_1_2) : w ∈ tables_1 := List.mem_append_right _ h
theorem lw_p0 : lw_okq (⟨"GridDuals", "shortest", "()I"⟩, 7) := ⟨⟨by decide +kernel, by decide +kernel⟩, lw_t1 (List.mem_of_getElem? (i := 4) rfl), lw_t1 (List.mem_of_getElem? (i := 72) rfl), lw_t1 (List.mem_of_getElem? (i := 73) rfl)⟩
theorem lw_p1 : lw_okq (⟨"GridDuals", "room", "(I)I"⟩, 7) := ⟨⟨by decide +kernel, by decide +kernel⟩, lw_t1 (List.mem_of_getElem? (i := 4) rfl), lw_t1 (List.mem_of_getElem? (i := 83) rfl), lw_t1 (List.mem_of_getElem? (i := 84) rfl)⟩
theorem lw_p2 : lw_okq (⟨"GridDuals", "relax", "(IIII)V"⟩, 7) := ⟨⟨by decide +kernel, by decide +kernel⟩, lw_t1 (List.mem_of_getElem? (i := 4) rfl), lw_t1 (List.mem_of_getElem? (i := 87) rfl), lw_t1 (List.mem_of_getElem? (i := 88) rfl)⟩
theorem lw_p3 : lw_okq (⟨"GridDuals", "fill", "(II)I"⟩, 7) := ⟨⟨by decide +kernel, by decide +kernel⟩, lw_t1 (List.mem_of_getElem? (i := 4) rfl), lw_t1 (List.mem_of_getElem? (i := 99) rfl), lw_t1 (List.mem_of_getElem? (i := 100) rfl)⟩
theorem lw_p4 : lw_okq (⟨"GridDuals", "search", "(II)I"⟩, 7) := ⟨⟨by decide +kernel, by decide +kernel⟩, lw_t1 (List.mem_of_getElem? (i := 4) rfl), lw_t1 (List.mem_of_getElem? (i := 103) rfl), lw_t1 (List.mem_of_getElem? (i := 104) rfl)⟩
theorem lw_p5 : lw_okq (⟨"GridDuals", "left", "(II)I"⟩, 7) := ⟨⟨by decide +kernel, by decide +kernel⟩, lw_t1 (List.mem_of_getElem? (i := 4) rfl), lw_t1 (List.mem_of_getElem? (i := 110) rfl), lw_t1 (List.mem_of_getElem? (i := 111) rfl)⟩
theorem lw_p6 : lw_okq (⟨"GridDuals", "push", "(II)I"⟩, 7) := ⟨⟨by decide +kernel, by decide +kernel⟩, lw_t1 (List.mem_of_getElem? (i := 4) rfl), lw_t1 (List.mem_of_getElem? (i := 114) rfl), lw_t1 (List.mem_of_getElem? (i := 115) rfl)⟩
theorem lw_p7 : lw_okq (⟨"GridDuals", "reached", "(IZ)I"⟩, 7) := ⟨⟨by decide +kernel, by decide +kernel⟩, lw_t1 (List.mem_of_getElem? (i := 4) rfl), lw_t1 (List.mem_of_getElem? (i := 118) rfl), lw_t1 (List.mem_of_getElem? (i := 119) rfl)⟩
theorem lw_p8 : lw_okq (⟨"GridDualsModel", "badStreet", "(I)Z"⟩, 4) := ⟨⟨by decide +kernel, by decide +kernel⟩, lw_t1 (List.mem_of_getElem? (i := 151) rfl), lw_t1 (List.mem_of_getElem? (i := 174) rfl), lw_t1 (List.mem_of_getElem? (i := 175) rfl)⟩
theorem lw_p9 : lw_okq (⟨"GridDualsModel", "bad", "(I)Z"⟩, 4) := ⟨⟨by decide +kernel, by decide +kernel⟩, lw_t1 (List.mem_of_getElem? (i := 151) rfl), lw_t1 (List.mem_of_getElem? (i := 194) rfl), lw_t1 (List.mem_of_getElem? (i := 195) rfl)⟩
theorem lw_p10 : lw_okq (⟨"GridDualsModel", "least", "(II)I"⟩, 4) := ⟨⟨by decide +kernel, by decide +kernel⟩, lw_t1 (List.mem_of_getElem? (i := 151) rfl), lw_t1 (List.mem_of_getElem? (i := 202) rfl), lw_t1 (List.mem_of_getElem? (i := 203) rfl)⟩
theorem lw_p11 : lw_okq (⟨"GridDualsModel", "weigh", "(I)I"⟩, 4) := ⟨⟨by decide +kernel, by decide +kernel⟩, lw_t1 (List.mem_of_getElem? (i := 151) rfl), lw_t1 (List.mem_of_getElem? (i := 206) rfl), lw_t1 (List.mem_of_getElem? (i := 207) rfl)⟩
theorem lw_p12 : lw_okq (⟨"GridDualsModel", "open", "(I)I"⟩, 4) := ⟨⟨by decide +kernel, by decide +kernel⟩, lw_t1 (List.mem_of_getElem? (i := 151) rfl), lw_t1 (List.mem_of_getElem? (i := 210) rfl), lw_t1 (List.mem_of_getElem? (i := 211) rfl)⟩
theorem lw_p13 : lw_okq (⟨"GridDualsModel", "first", "()I"⟩, 4) := ⟨⟨by decide +kernel, by decide +kernel⟩, lw_t1 (List.mem_of_getElem? (i := 151) rfl), lw_t1 (List.mem_of_getElem? (i := 222) rfl), lw_t1 (List.mem_of_getElem? (i := 223) rfl)⟩
def lw_privs_1 : List (MethodName × Nat) := [(⟨"GridDuals", "shortest", "()I"⟩, 7), (⟨"GridDuals", "room", "(I)I"⟩, 7), (⟨"GridDuals", "relax", "(IIII)V"⟩, 7), (⟨"GridDuals", "fill", "(II)I"⟩, 7), (⟨"GridDuals", "search", "(II)I"⟩, 7), (⟨"GridDuals", "left", "(II)I"⟩, 7), (⟨"GridDuals", "push", "(II)I"⟩, 7), (⟨"GridDuals", "reached", "(IZ)I"⟩, 7), (⟨"GridDualsModel", "badStreet", "(I)Z"⟩, 4), (⟨"GridDualsModel", "bad", "(I)Z"⟩, 4), (⟨"GridDualsModel", "least", "(II)I"⟩, 4), (⟨"GridDualsModel", "weigh", "(I)I"⟩, 4), (⟨"GridDualsModel", "open", "(I)I"⟩, 4), (⟨"GridDualsModel", "first", "()I"⟩, 4)]
theorem lw_r1 : ∀ q ∈ lw_privs_1, lw_okq q := List.forall_mem_cons.mpr ⟨lw_p0, List.forall_mem_cons.mpr ⟨lw_p1, List.forall_mem_cons.mpr ⟨lw_p2, List.forall_mem_cons.mpr ⟨lw_p3, List.forall_mem_cons.mpr ⟨lw_p4, List.forall_mem_cons.mpr ⟨lw_p5, List.forall_mem_cons.mpr ⟨lw_p6, List.forall_mem_cons.mpr ⟨lw_p7, List.forall_mem_cons.mpr ⟨lw_p8, List.forall_mem_cons.mpr ⟨lw_p9, List.forall_mem_cons.mpr ⟨lw_p10, List.forall_mem_cons.mpr ⟨lw_p11, List.forall_mem_cons.mpr ⟨lw_p12, List.forall_mem_cons.mpr ⟨lw_p13, fun _ h => absurd h List.not_mem_nil⟩⟩⟩⟩⟩⟩⟩⟩⟩⟩⟩⟩⟩⟩
def lw_privs : List (MethodName × Nat) := lw_privs_1
def lw_tbl : List Cond := k2_sels lw_privs ++ tables_1
theorem lw_privs_ok : ∀ q ∈ lw_privs, lw_okq q := lw_r1
-- ===== ONE list of words for every method: the tables' words that hold all through a run =====
def lw_all : List Cond := lw_tbl.filter goodWord
/-- a word of the tables by its place: claim/WORDS.tsv -/
theorem lw_w {w : Cond} (i : Nat) (h : lw_tbl[i]? = some w) (g : goodWord w = true) : w ∈ lw_all := List.mem_filter.mpr ⟨List.mem_of_getElem? h, g⟩
theorem lw_all_tbl {w : Cond} (h : w ∈ lw_all) : w ∈ lw_tbl := (List.mem_filter.mp h).1
theorem lw_self : GoodIn lw_all lw_all := fun w h => ⟨h, good_of_word (List.mem_filter.mp h).2⟩
/-- a class's field words, by their places -/
theorem lw_in (ws : List Cond) (ps : List Nat) (hp : ws = ps.filterMap (fun i => lw_tbl[i]?)) (hg : ws.all goodWord = true) : ∀ w ∈ ws, w ∈ lw_all := by
  intro w h
  have h1 := List.all_eq_true.mp hg w h
  rw [hp] at h
  obtain ⟨i, -, hi⟩ := List.mem_filterMap.mp h
  exact lw_w i hi h1
/-- the words of a contract for the method y with code b, L locals, answer r -/
abbrev ws_ (y : MethodName) (b : ByteArray) (L : Nat) (r : Option FieldType) : List Cond := Cond.code y b L r :: lw_all
theorem lw_meth {y : MethodName} {b : ByteArray} {L : Nat} {r : Option FieldType} (h : Cond.code y b L r ∈ lw_all) : GoodIn lw_all (ws_ y b L r) := by
  intro w hw
  rcases List.mem_cons.mp hw with e | e
  · rw [e]
    exact lw_self _ h
  · exact lw_self _ e
theorem lw_app {a c : List Cond} (ha : ∀ w ∈ a, w ∈ lw_all) (hc : GoodIn lw_all c) : GoodIn lw_all (a ++ c) := by
  intro w hw
  rcases List.mem_append.mp hw with e | e
  · exact lw_self w (ha w e)
  · exact hc w e
/-- what a call through an object asks: cwV n hts (lw_V ..) -/
theorem lw_V {own : String} {idx : Nat} {C : String} {y : MethodName} {b : ByteArray} {L : Nat} {r : Option FieldType} (h1 : Cond.methodLink own idx y ∈ lw_all) (h2 : Cond.instanceMethod y ∈ lw_all) (h3 : Cond.selects C y y ∈ lw_all) (h4 : Cond.initialized C ∈ lw_all) (h5 : Cond.code y b L r ∈ lw_all) : GoodIn lw_all (wsV own idx C y (ws_ y b L r)) := by
  refine lw_app ?_ (lw_meth h5)
  intro w hw
  simp only [List.mem_cons, List.not_mem_nil, or_false] at hw
  rcases hw with e | e | e | e
  · rw [e]; exact h1
  · rw [e]; exact h2
  · rw [e]; exact h3
  · rw [e]; exact h4
/-- what a static call asks: va_cwS n hts (lw_S ..) -/
theorem lw_S {own : String} {idx : Nat} {y : MethodName} {b : ByteArray} {L : Nat} {r : Option FieldType} (h1 : Cond.methodLink own idx y ∈ lw_all) (h2 : Cond.static y ∈ lw_all) (h3 : Cond.initialized y.cls ∈ lw_all) (h4 : Cond.code y b L r ∈ lw_all) : GoodIn lw_all (va_wsS own idx y (ws_ y b L r)) := by
  refine lw_app ?_ (lw_meth h4)
  intro w hw
  simp only [List.mem_cons, List.not_mem_nil, or_false] at hw
  rcases hw with e | e | e
  · rw [e]; exact h1
  · rw [e]; exact h2
  · rw [e]; exact h3
/-- the words of a contract for a method WITH HANDLERS (hh: its table) -/
abbrev wsW_ (y : MethodName) (b : ByteArray) (L : Nat) (r : Option FieldType) (hh : List (Nat × Nat × Nat × Nat)) : List Cond := Cond.codeWith y b L r hh :: lw_all
theorem lw_methW {y : MethodName} {b : ByteArray} {L : Nat} {r : Option FieldType} {hh : List (Nat × Nat × Nat × Nat)} (h : Cond.codeWith y b L r hh ∈ lw_all) : GoodIn lw_all (wsW_ y b L r hh) := by
  intro w hw
  rcases List.mem_cons.mp hw with e | e
  · rw [e]
    exact lw_self _ h
  · exact lw_self _ e
/-- any list of words by their places (lw_in), good -/
theorem lw_good {ws : List Cond} (h : ∀ w ∈ ws, w ∈ lw_all) : GoodIn lw_all ws := fun w hw => lw_self w (h w hw)
/-- what a call of a method with handlers asks: vx_cwVW n hts (lw_VW ..), vx_cwSW n hts (lw_SW ..) -/
theorem lw_VW {own : String} {idx : Nat} {C : String} {y : MethodName} {b : ByteArray} {L : Nat} {r : Option FieldType} {hh : List (Nat × Nat × Nat × Nat)} (h1 : Cond.methodLink own idx y ∈ lw_all) (h2 : Cond.instanceMethod y ∈ lw_all) (h3 : Cond.selects C y y ∈ lw_all) (h4 : Cond.initialized C ∈ lw_all) (h5 : Cond.codeWith y b L r hh ∈ lw_all) : GoodIn lw_all (wsV own idx C y (wsW_ y b L r hh)) := by
  refine lw_app ?_ (lw_methW h5)
  intro w hw
  simp only [List.mem_cons, List.not_mem_nil, or_false] at hw
  rcases hw with e | e | e | e
  · rw [e]; exact h1
  · rw [e]; exact h2
  · rw [e]; exact h3
  · rw [e]; exact h4
theorem lw_SW {own : String} {idx : Nat} {y : MethodName} {b : ByteArray} {L : Nat} {r : Option FieldType} {hh : List (Nat × Nat × Nat × Nat)} (h1 : Cond.methodLink own idx y ∈ lw_all) (h2 : Cond.static y ∈ lw_all) (h3 : Cond.initialized y.cls ∈ lw_all) (h4 : Cond.codeWith y b L r hh ∈ lw_all) : GoodIn lw_all (va_wsS own idx y (wsW_ y b L r hh)) := by
  refine lw_app ?_ (lw_methW h4)
  intro w hw
  simp only [List.mem_cons, List.not_mem_nil, or_false] at hw
  rcases hw with e | e | e
  · rw [e]; exact h1
  · rw [e]; exact h2
  · rw [e]; exact h3
/-- a word by its place in its run of the tables -/
theorem lw_at {r : List Cond} (hr : ∀ w ∈ r, w ∈ lw_tbl) {w : Cond} (i : Nat) (h : r[i]? = some w) : w ∈ lw_tbl := hr w (List.mem_of_getElem? h)
theorem lw_g {w : Cond} (h : w ∈ lw_tbl) (g : goodWord w = true) : w ∈ lw_all := List.mem_filter.mpr ⟨h, g⟩
theorem lw_ms : ∀ w ∈ k2_sels lw_privs, w ∈ lw_tbl := fun w h => show w ∈ k2_sels lw_privs ++ tables_1 from List.mem_append_left _ h
theorem lw_m1 : ∀ w ∈ tables_1_1, w ∈ lw_tbl := fun w h => show w ∈ k2_sels lw_privs ++ tables_1 from List.mem_append_right (k2_sels lw_privs) (show w ∈ tables_1 from List.mem_append_left _ h)
theorem lw_m2 : ∀ w ∈ tables_1_2, w ∈ lw_tbl := fun w h => show w ∈ k2_sels lw_privs ++ tables_1 from List.mem_append_right (k2_sels lw_privs) (show w ∈ tables_1 from List.mem_append_right _ h)
theorem qs0 : (Cond.selects "GridDuals" ⟨"GridDuals", "shortest", "()I"⟩ ⟨"GridDuals", "shortest", "()I"⟩) ∈ lw_all := lw_g (lw_at lw_ms 0 rfl) rfl
theorem qs1 : (Cond.selects "GridDuals" ⟨"GridDuals", "room", "(I)I"⟩ ⟨"GridDuals", "room", "(I)I"⟩) ∈ lw_all := lw_g (lw_at lw_ms 1 rfl) rfl
theorem qs2 : (Cond.selects "GridDuals" ⟨"GridDuals", "relax", "(IIII)V"⟩ ⟨"GridDuals", "relax", "(IIII)V"⟩) ∈ lw_all := lw_g (lw_at lw_ms 2 rfl) rfl
theorem qs3 : (Cond.selects "GridDuals" ⟨"GridDuals", "fill", "(II)I"⟩ ⟨"GridDuals", "fill", "(II)I"⟩) ∈ lw_all := lw_g (lw_at lw_ms 3 rfl) rfl
theorem qs4 : (Cond.selects "GridDuals" ⟨"GridDuals", "search", "(II)I"⟩ ⟨"GridDuals", "search", "(II)I"⟩) ∈ lw_all := lw_g (lw_at lw_ms 4 rfl) rfl
theorem qs5 : (Cond.selects "GridDuals" ⟨"GridDuals", "left", "(II)I"⟩ ⟨"GridDuals", "left", "(II)I"⟩) ∈ lw_all := lw_g (lw_at lw_ms 5 rfl) rfl
theorem qs6 : (Cond.selects "GridDuals" ⟨"GridDuals", "push", "(II)I"⟩ ⟨"GridDuals", "push", "(II)I"⟩) ∈ lw_all := lw_g (lw_at lw_ms 6 rfl) rfl
theorem qs7 : (Cond.selects "GridDuals" ⟨"GridDuals", "reached", "(IZ)I"⟩ ⟨"GridDuals", "reached", "(IZ)I"⟩) ∈ lw_all := lw_g (lw_at lw_ms 7 rfl) rfl
theorem qs8 : (Cond.selects "GridDualsModel" ⟨"GridDualsModel", "badStreet", "(I)Z"⟩ ⟨"GridDualsModel", "badStreet", "(I)Z"⟩) ∈ lw_all := lw_g (lw_at lw_ms 8 rfl) rfl
theorem qs9 : (Cond.selects "GridDualsModel" ⟨"GridDualsModel", "bad", "(I)Z"⟩ ⟨"GridDualsModel", "bad", "(I)Z"⟩) ∈ lw_all := lw_g (lw_at lw_ms 9 rfl) rfl
theorem qs10 : (Cond.selects "GridDualsModel" ⟨"GridDualsModel", "least", "(II)I"⟩ ⟨"GridDualsModel", "least", "(II)I"⟩) ∈ lw_all := lw_g (lw_at lw_ms 10 rfl) rfl
theorem qs11 : (Cond.selects "GridDualsModel" ⟨"GridDualsModel", "weigh", "(I)I"⟩ ⟨"GridDualsModel", "weigh", "(I)I"⟩) ∈ lw_all := lw_g (lw_at lw_ms 11 rfl) rfl
theorem qs12 : (Cond.selects "GridDualsModel" ⟨"GridDualsModel", "open", "(I)I"⟩ ⟨"GridDualsModel", "open", "(I)I"⟩) ∈ lw_all := lw_g (lw_at lw_ms 12 rfl) rfl
theorem qs13 : (Cond.selects "GridDualsModel" ⟨"GridDualsModel", "first", "()I"⟩ ⟨"GridDualsModel", "first", "()I"⟩) ∈ lw_all := lw_g (lw_at lw_ms 13 rfl) rfl
end
section
set_option maxRecDepth 100000
/-! java/lang/Object -/
def RJ0 : String := "java/lang/Object"
abbrev cJ0_init : ByteArray := object_method_1_code
def yJ0_init : MethodName := ⟨RJ0, "<init>", "()V"⟩
theorem q23 : (Jvm.Cond.instanceMethod ({ cls := "java/lang/Object", name := "<init>", desc := "()V" } : Jvm.MethodName)) ∈ lw_all := lw_g (lw_at lw_m1 9 rfl) rfl
theorem q24 : (Jvm.Cond.code ({ cls := "java/lang/Object", name := "<init>", desc := "()V" } : Jvm.MethodName) object_method_1_code (1 : Nat) (Option.none : Option Jvm.ClassFile.FieldType)) ∈ lw_all := lw_g (lw_at lw_m1 10 rfl) rfl

theorem dJ0_init_0 : decode cJ0_init 0 = .ok (.return_, 1) := by decide +kernel
/-! GridDuals -/
def RX0 : String := "GridDuals"
def TX0 : u_T := fun k => match k with
  | 0 => ("GridDuals", "capacities", "[I", true)
  | 1 => ("GridDuals", "closed", "[Z", true)
  | 2 => ("GridDuals", "used", "[I", true)
  | 3 => ("GridDuals", "length", "[I", true)
  | 4 => ("GridDuals", "settled", "[Z", true)
  | 5 => ("GridDuals", "parent", "[I", true)
  | _ => ("GridDuals", "queue", "[I", true)
def tyX0 : Nat → FieldType := fun k => match k with
  | 0 => .array .int
  | 1 => .array .boolean
  | 2 => .array .int
  | 3 => .array .int
  | 4 => .array .boolean
  | 5 => .array .int
  | _ => .array .int
abbrev wsX00 : List Cond := u_ws RX0 TX0 7
theorem nmX0 : ∀ a, a < 7 → ∀ b, b < 7 → a ≠ b → (TX0 a).2.1 ≠ (TX0 b).2.1 := by decide +kernel
theorem tyX0_ok : ∀ k, k < 7 → parseFieldDescriptor (TX0 k).2.2.1 = some (tyX0 k) := by decide +kernel
abbrev cX0_init : ByteArray := prog_1_method_1_code
def yX0_init : MethodName := ⟨RX0, "<init>", "()V"⟩
abbrev cX0_set : ByteArray := prog_1_method_2_code
def yX0_set : MethodName := ⟨RX0, "set", "(II)I"⟩
abbrev cX0_isStreet : ByteArray := prog_1_method_17_code
def yX0_isStreet : MethodName := ⟨RX0, "isStreet", "(I)Z"⟩
abbrev cX0_sow : ByteArray := prog_1_method_3_code
def yX0_sow : MethodName := ⟨RX0, "sow", "(II)I"⟩
abbrev cX0_close : ByteArray := prog_1_method_4_code
def yX0_close : MethodName := ⟨RX0, "close", "(II)I"⟩
abbrev cX0_capacity : ByteArray := prog_1_method_5_code
def yX0_capacity : MethodName := ⟨RX0, "capacity", "(I)I"⟩
abbrev cX0_between : ByteArray := prog_1_method_6_code
def yX0_between : MethodName := ⟨RX0, "between", "(II)I"⟩
abbrev cX0_isCrossing : ByteArray := prog_1_method_18_code
def yX0_isCrossing : MethodName := ⟨RX0, "isCrossing", "(I)Z"⟩
abbrev cX0_firstEnd : ByteArray := prog_1_method_19_code
def yX0_firstEnd : MethodName := ⟨RX0, "firstEnd", "(I)I"⟩
abbrev cX0_secondEnd : ByteArray := prog_1_method_20_code
def yX0_secondEnd : MethodName := ⟨RX0, "secondEnd", "(I)I"⟩
abbrev cX0_flow : ByteArray := prog_1_method_7_code
def yX0_flow : MethodName := ⟨RX0, "flow", "()I"⟩
abbrev cX0_shortest : ByteArray := prog_1_method_24_code
def yX0_shortest : MethodName := ⟨RX0, "shortest", "()I"⟩
abbrev cX0_firstPlace : ByteArray := prog_1_method_22_code
def yX0_firstPlace : MethodName := ⟨RX0, "firstPlace", "(I)I"⟩
abbrev cX0_secondPlace : ByteArray := prog_1_method_23_code
def yX0_secondPlace : MethodName := ⟨RX0, "secondPlace", "(I)I"⟩
abbrev cX0_room : ByteArray := prog_1_method_21_code
def yX0_room : MethodName := ⟨RX0, "room", "(I)I"⟩
abbrev cX0_relax : ByteArray := prog_1_method_25_code
def yX0_relax : MethodName := ⟨RX0, "relax", "(IIII)V"⟩
abbrev cX0_weight : ByteArray := prog_1_method_8_code
def yX0_weight : MethodName := ⟨RX0, "weight", "(I)I"⟩
abbrev cX0_firstCut : ByteArray := prog_1_method_9_code
def yX0_firstCut : MethodName := ⟨RX0, "firstCut", "()I"⟩
abbrev cX0_fill : ByteArray := prog_1_method_27_code
def yX0_fill : MethodName := ⟨RX0, "fill", "(II)I"⟩
abbrev cX0_search : ByteArray := prog_1_method_28_code
def yX0_search : MethodName := ⟨RX0, "search", "(II)I"⟩
abbrev cX0_otherEnd : ByteArray := prog_1_method_29_code
def yX0_otherEnd : MethodName := ⟨RX0, "otherEnd", "(II)I"⟩
abbrev cX0_left : ByteArray := prog_1_method_26_code
def yX0_left : MethodName := ⟨RX0, "left", "(II)I"⟩
abbrev cX0_push : ByteArray := prog_1_method_30_code
def yX0_push : MethodName := ⟨RX0, "push", "(II)I"⟩
abbrev cX0_reached : ByteArray := prog_1_method_31_code
def yX0_reached : MethodName := ⟨RX0, "reached", "(IZ)I"⟩
abbrev cX0_lastCut : ByteArray := prog_1_method_10_code
def yX0_lastCut : MethodName := ⟨RX0, "lastCut", "()I"⟩
abbrev cX0_leastWith : ByteArray := prog_1_method_11_code
def yX0_leastWith : MethodName := ⟨RX0, "leastWith", "(I)I"⟩
abbrev cX0_leastWithout : ByteArray := prog_1_method_12_code
def yX0_leastWithout : MethodName := ⟨RX0, "leastWithout", "(I)I"⟩
abbrev cX0_loss : ByteArray := prog_1_method_13_code
def yX0_loss : MethodName := ⟨RX0, "loss", "(I)I"⟩
abbrev cX0_gain : ByteArray := prog_1_method_14_code
def yX0_gain : MethodName := ⟨RX0, "gain", "(II)I"⟩
abbrev cX0_way : ByteArray := prog_1_method_15_code
def yX0_way : MethodName := ⟨RX0, "way", "(II)I"⟩
abbrev cX0_cutStreets : ByteArray := prog_1_method_16_code
def yX0_cutStreets : MethodName := ⟨RX0, "cutStreets", "()I"⟩
theorem q15 : (Jvm.Cond.initialized "GridDuals") ∈ lw_all := lw_g (lw_at lw_m1 1 rfl) rfl
theorem q18 : (Jvm.Cond.instantiable "GridDuals" (7 : Nat)) ∈ lw_all := lw_g (lw_at lw_m1 4 rfl) rfl
theorem q20 : (Jvm.Cond.instanceMethod ({ cls := "GridDuals", name := "<init>", desc := "()V" } : Jvm.MethodName)) ∈ lw_all := lw_g (lw_at lw_m1 6 rfl) rfl
theorem q21 : (Jvm.Cond.code ({ cls := "GridDuals", name := "<init>", desc := "()V" } : Jvm.MethodName) prog_1_method_1_code (1 : Nat) (Option.none : Option Jvm.ClassFile.FieldType)) ∈ lw_all := lw_g (lw_at lw_m1 7 rfl) rfl
theorem q22 : (Jvm.Cond.methodLink "GridDuals" (1 : Nat) ({ cls := "java/lang/Object", name := "<init>", desc := "()V" } : Jvm.MethodName)) ∈ lw_all := lw_g (lw_at lw_m1 8 rfl) rfl
theorem q25 : (Jvm.Cond.fieldLink "GridDuals" (7 : Nat) "GridDuals" "capacities" "[I") ∈ lw_all := lw_g (lw_at lw_m1 11 rfl) rfl
theorem q26 : (Jvm.Cond.fieldLink "GridDuals" (13 : Nat) "GridDuals" "closed" "[Z") ∈ lw_all := lw_g (lw_at lw_m1 12 rfl) rfl
theorem q27 : (Jvm.Cond.fieldLink "GridDuals" (17 : Nat) "GridDuals" "used" "[I") ∈ lw_all := lw_g (lw_at lw_m1 13 rfl) rfl
theorem q28 : (Jvm.Cond.fieldLink "GridDuals" (20 : Nat) "GridDuals" "length" "[I") ∈ lw_all := lw_g (lw_at lw_m1 14 rfl) rfl
theorem q29 : (Jvm.Cond.fieldLink "GridDuals" (23 : Nat) "GridDuals" "settled" "[Z") ∈ lw_all := lw_g (lw_at lw_m1 15 rfl) rfl
theorem q30 : (Jvm.Cond.fieldLink "GridDuals" (26 : Nat) "GridDuals" "parent" "[I") ∈ lw_all := lw_g (lw_at lw_m1 16 rfl) rfl
theorem q31 : (Jvm.Cond.fieldLink "GridDuals" (29 : Nat) "GridDuals" "queue" "[I") ∈ lw_all := lw_g (lw_at lw_m1 17 rfl) rfl
theorem q32 : (Jvm.Cond.laysFinal "GridDuals" "GridDuals" "capacities" "[I") ∈ lw_all := lw_g (lw_at lw_m1 18 rfl) rfl
theorem q33 : (Jvm.Cond.soleField "GridDuals" "capacities") ∈ lw_all := lw_g (lw_at lw_m1 19 rfl) rfl
theorem q34 : (Jvm.Cond.laysFinal "GridDuals" "GridDuals" "closed" "[Z") ∈ lw_all := lw_g (lw_at lw_m1 20 rfl) rfl
theorem q35 : (Jvm.Cond.soleField "GridDuals" "closed") ∈ lw_all := lw_g (lw_at lw_m1 21 rfl) rfl
theorem q36 : (Jvm.Cond.laysFinal "GridDuals" "GridDuals" "used" "[I") ∈ lw_all := lw_g (lw_at lw_m1 22 rfl) rfl
theorem q37 : (Jvm.Cond.soleField "GridDuals" "used") ∈ lw_all := lw_g (lw_at lw_m1 23 rfl) rfl
theorem q38 : (Jvm.Cond.laysFinal "GridDuals" "GridDuals" "length" "[I") ∈ lw_all := lw_g (lw_at lw_m1 24 rfl) rfl
theorem q39 : (Jvm.Cond.soleField "GridDuals" "length") ∈ lw_all := lw_g (lw_at lw_m1 25 rfl) rfl
theorem q40 : (Jvm.Cond.laysFinal "GridDuals" "GridDuals" "settled" "[Z") ∈ lw_all := lw_g (lw_at lw_m1 26 rfl) rfl
theorem q41 : (Jvm.Cond.soleField "GridDuals" "settled") ∈ lw_all := lw_g (lw_at lw_m1 27 rfl) rfl
theorem q42 : (Jvm.Cond.laysFinal "GridDuals" "GridDuals" "parent" "[I") ∈ lw_all := lw_g (lw_at lw_m1 28 rfl) rfl
theorem q43 : (Jvm.Cond.soleField "GridDuals" "parent") ∈ lw_all := lw_g (lw_at lw_m1 29 rfl) rfl
theorem q44 : (Jvm.Cond.laysFinal "GridDuals" "GridDuals" "queue" "[I") ∈ lw_all := lw_g (lw_at lw_m1 30 rfl) rfl
theorem q45 : (Jvm.Cond.soleField "GridDuals" "queue") ∈ lw_all := lw_g (lw_at lw_m1 31 rfl) rfl
theorem q46 : (Jvm.Cond.superclass "GridDuals" "java/lang/Object") ∈ lw_all := lw_g (lw_at lw_m1 32 rfl) rfl
theorem q50 : (Jvm.Cond.instanceMethod ({ cls := "GridDuals", name := "set", desc := "(II)I" } : Jvm.MethodName)) ∈ lw_all := lw_g (lw_at lw_m1 36 rfl) rfl
theorem q51 : (Jvm.Cond.selects "GridDuals" ({ cls := "GridDuals", name := "set", desc := "(II)I" } : Jvm.MethodName) ({ cls := "GridDuals", name := "set", desc := "(II)I" } : Jvm.MethodName)) ∈ lw_all := lw_g (lw_at lw_m1 37 rfl) rfl
theorem q52 : (Jvm.Cond.code ({ cls := "GridDuals", name := "set", desc := "(II)I" } : Jvm.MethodName) prog_1_method_2_code (4 : Nat) (Option.some Jvm.ClassFile.FieldType.int)) ∈ lw_all := lw_g (lw_at lw_m1 38 rfl) rfl
theorem q53 : (Jvm.Cond.methodLink "GridDuals" (32 : Nat) ({ cls := "GridDuals", name := "isStreet", desc := "(I)Z" } : Jvm.MethodName)) ∈ lw_all := lw_g (lw_at lw_m1 39 rfl) rfl
theorem q54 : (Jvm.Cond.static ({ cls := "GridDuals", name := "isStreet", desc := "(I)Z" } : Jvm.MethodName)) ∈ lw_all := lw_g (lw_at lw_m1 40 rfl) rfl
theorem q55 : (Jvm.Cond.code ({ cls := "GridDuals", name := "isStreet", desc := "(I)Z" } : Jvm.MethodName) prog_1_method_17_code (1 : Nat) (Option.some Jvm.ClassFile.FieldType.boolean)) ∈ lw_all := lw_g (lw_at lw_m1 41 rfl) rfl
theorem q57 : (Jvm.Cond.instanceMethod ({ cls := "GridDuals", name := "sow", desc := "(II)I" } : Jvm.MethodName)) ∈ lw_all := lw_g (lw_at lw_m1 43 rfl) rfl
theorem q58 : (Jvm.Cond.selects "GridDuals" ({ cls := "GridDuals", name := "sow", desc := "(II)I" } : Jvm.MethodName) ({ cls := "GridDuals", name := "sow", desc := "(II)I" } : Jvm.MethodName)) ∈ lw_all := lw_g (lw_at lw_m1 44 rfl) rfl
theorem q59 : (Jvm.Cond.code ({ cls := "GridDuals", name := "sow", desc := "(II)I" } : Jvm.MethodName) prog_1_method_3_code (5 : Nat) (Option.some Jvm.ClassFile.FieldType.int)) ∈ lw_all := lw_g (lw_at lw_m1 45 rfl) rfl
theorem q61 : (Jvm.Cond.instanceMethod ({ cls := "GridDuals", name := "close", desc := "(II)I" } : Jvm.MethodName)) ∈ lw_all := lw_g (lw_at lw_m1 47 rfl) rfl
theorem q62 : (Jvm.Cond.selects "GridDuals" ({ cls := "GridDuals", name := "close", desc := "(II)I" } : Jvm.MethodName) ({ cls := "GridDuals", name := "close", desc := "(II)I" } : Jvm.MethodName)) ∈ lw_all := lw_g (lw_at lw_m1 48 rfl) rfl
theorem q63 : (Jvm.Cond.code ({ cls := "GridDuals", name := "close", desc := "(II)I" } : Jvm.MethodName) prog_1_method_4_code (4 : Nat) (Option.some Jvm.ClassFile.FieldType.int)) ∈ lw_all := lw_g (lw_at lw_m1 49 rfl) rfl
theorem q65 : (Jvm.Cond.instanceMethod ({ cls := "GridDuals", name := "capacity", desc := "(I)I" } : Jvm.MethodName)) ∈ lw_all := lw_g (lw_at lw_m1 51 rfl) rfl
theorem q66 : (Jvm.Cond.selects "GridDuals" ({ cls := "GridDuals", name := "capacity", desc := "(I)I" } : Jvm.MethodName) ({ cls := "GridDuals", name := "capacity", desc := "(I)I" } : Jvm.MethodName)) ∈ lw_all := lw_g (lw_at lw_m1 52 rfl) rfl
theorem q67 : (Jvm.Cond.code ({ cls := "GridDuals", name := "capacity", desc := "(I)I" } : Jvm.MethodName) prog_1_method_5_code (2 : Nat) (Option.some Jvm.ClassFile.FieldType.int)) ∈ lw_all := lw_g (lw_at lw_m1 53 rfl) rfl
theorem q69 : (Jvm.Cond.instanceMethod ({ cls := "GridDuals", name := "between", desc := "(II)I" } : Jvm.MethodName)) ∈ lw_all := lw_g (lw_at lw_m1 55 rfl) rfl
theorem q70 : (Jvm.Cond.selects "GridDuals" ({ cls := "GridDuals", name := "between", desc := "(II)I" } : Jvm.MethodName) ({ cls := "GridDuals", name := "between", desc := "(II)I" } : Jvm.MethodName)) ∈ lw_all := lw_g (lw_at lw_m1 56 rfl) rfl
theorem q71 : (Jvm.Cond.code ({ cls := "GridDuals", name := "between", desc := "(II)I" } : Jvm.MethodName) prog_1_method_6_code (6 : Nat) (Option.some Jvm.ClassFile.FieldType.int)) ∈ lw_all := lw_g (lw_at lw_m1 57 rfl) rfl
theorem q72 : (Jvm.Cond.methodLink "GridDuals" (36 : Nat) ({ cls := "GridDuals", name := "isCrossing", desc := "(I)Z" } : Jvm.MethodName)) ∈ lw_all := lw_g (lw_at lw_m1 58 rfl) rfl
theorem q73 : (Jvm.Cond.static ({ cls := "GridDuals", name := "isCrossing", desc := "(I)Z" } : Jvm.MethodName)) ∈ lw_all := lw_g (lw_at lw_m1 59 rfl) rfl
theorem q74 : (Jvm.Cond.code ({ cls := "GridDuals", name := "isCrossing", desc := "(I)Z" } : Jvm.MethodName) prog_1_method_18_code (1 : Nat) (Option.some Jvm.ClassFile.FieldType.boolean)) ∈ lw_all := lw_g (lw_at lw_m1 60 rfl) rfl
theorem q75 : (Jvm.Cond.methodLink "GridDuals" (39 : Nat) ({ cls := "GridDuals", name := "firstEnd", desc := "(I)I" } : Jvm.MethodName)) ∈ lw_all := lw_g (lw_at lw_m1 61 rfl) rfl
theorem q76 : (Jvm.Cond.static ({ cls := "GridDuals", name := "firstEnd", desc := "(I)I" } : Jvm.MethodName)) ∈ lw_all := lw_g (lw_at lw_m1 62 rfl) rfl
theorem q77 : (Jvm.Cond.code ({ cls := "GridDuals", name := "firstEnd", desc := "(I)I" } : Jvm.MethodName) prog_1_method_19_code (1 : Nat) (Option.some Jvm.ClassFile.FieldType.int)) ∈ lw_all := lw_g (lw_at lw_m1 63 rfl) rfl
theorem q78 : (Jvm.Cond.methodLink "GridDuals" (43 : Nat) ({ cls := "GridDuals", name := "secondEnd", desc := "(I)I" } : Jvm.MethodName)) ∈ lw_all := lw_g (lw_at lw_m1 64 rfl) rfl
theorem q79 : (Jvm.Cond.static ({ cls := "GridDuals", name := "secondEnd", desc := "(I)I" } : Jvm.MethodName)) ∈ lw_all := lw_g (lw_at lw_m1 65 rfl) rfl
theorem q80 : (Jvm.Cond.code ({ cls := "GridDuals", name := "secondEnd", desc := "(I)I" } : Jvm.MethodName) prog_1_method_20_code (1 : Nat) (Option.some Jvm.ClassFile.FieldType.int)) ∈ lw_all := lw_g (lw_at lw_m1 66 rfl) rfl
theorem q82 : (Jvm.Cond.instanceMethod ({ cls := "GridDuals", name := "flow", desc := "()I" } : Jvm.MethodName)) ∈ lw_all := lw_g (lw_at lw_m1 68 rfl) rfl
theorem q83 : (Jvm.Cond.selects "GridDuals" ({ cls := "GridDuals", name := "flow", desc := "()I" } : Jvm.MethodName) ({ cls := "GridDuals", name := "flow", desc := "()I" } : Jvm.MethodName)) ∈ lw_all := lw_g (lw_at lw_m1 69 rfl) rfl
theorem q84 : (Jvm.Cond.code ({ cls := "GridDuals", name := "flow", desc := "()I" } : Jvm.MethodName) prog_1_method_7_code (1 : Nat) (Option.some Jvm.ClassFile.FieldType.int)) ∈ lw_all := lw_g (lw_at lw_m1 70 rfl) rfl
theorem q85 : (Jvm.Cond.methodLink "GridDuals" (46 : Nat) ({ cls := "GridDuals", name := "shortest", desc := "()I" } : Jvm.MethodName)) ∈ lw_all := lw_g (lw_at lw_m1 71 rfl) rfl
theorem q86 : (Jvm.Cond.privateMethod ({ cls := "GridDuals", name := "shortest", desc := "()I" } : Jvm.MethodName)) ∈ lw_tbl := lw_at lw_m1 72 rfl
theorem q87 : (Jvm.Cond.instanceMethod ({ cls := "GridDuals", name := "shortest", desc := "()I" } : Jvm.MethodName)) ∈ lw_all := lw_g (lw_at lw_m1 73 rfl) rfl
theorem q88 : (Jvm.Cond.code ({ cls := "GridDuals", name := "shortest", desc := "()I" } : Jvm.MethodName) prog_1_method_24_code (4 : Nat) (Option.some Jvm.ClassFile.FieldType.int)) ∈ lw_all := lw_g (lw_at lw_m1 74 rfl) rfl
theorem q89 : (Jvm.Cond.constant "GridDuals" (64 : Nat) (100000 : Int32)) ∈ lw_all := lw_g (lw_at lw_m1 75 rfl) rfl
theorem q90 : (Jvm.Cond.methodLink "GridDuals" (65 : Nat) ({ cls := "GridDuals", name := "firstPlace", desc := "(I)I" } : Jvm.MethodName)) ∈ lw_all := lw_g (lw_at lw_m1 76 rfl) rfl
theorem q91 : (Jvm.Cond.static ({ cls := "GridDuals", name := "firstPlace", desc := "(I)I" } : Jvm.MethodName)) ∈ lw_all := lw_g (lw_at lw_m1 77 rfl) rfl
theorem q92 : (Jvm.Cond.code ({ cls := "GridDuals", name := "firstPlace", desc := "(I)I" } : Jvm.MethodName) prog_1_method_22_code (3 : Nat) (Option.some Jvm.ClassFile.FieldType.int)) ∈ lw_all := lw_g (lw_at lw_m1 78 rfl) rfl
theorem q93 : (Jvm.Cond.methodLink "GridDuals" (68 : Nat) ({ cls := "GridDuals", name := "secondPlace", desc := "(I)I" } : Jvm.MethodName)) ∈ lw_all := lw_g (lw_at lw_m1 79 rfl) rfl
theorem q94 : (Jvm.Cond.static ({ cls := "GridDuals", name := "secondPlace", desc := "(I)I" } : Jvm.MethodName)) ∈ lw_all := lw_g (lw_at lw_m1 80 rfl) rfl
theorem q95 : (Jvm.Cond.code ({ cls := "GridDuals", name := "secondPlace", desc := "(I)I" } : Jvm.MethodName) prog_1_method_23_code (3 : Nat) (Option.some Jvm.ClassFile.FieldType.int)) ∈ lw_all := lw_g (lw_at lw_m1 81 rfl) rfl
theorem q96 : (Jvm.Cond.methodLink "GridDuals" (50 : Nat) ({ cls := "GridDuals", name := "room", desc := "(I)I" } : Jvm.MethodName)) ∈ lw_all := lw_g (lw_at lw_m1 82 rfl) rfl
theorem q97 : (Jvm.Cond.privateMethod ({ cls := "GridDuals", name := "room", desc := "(I)I" } : Jvm.MethodName)) ∈ lw_tbl := lw_at lw_m1 83 rfl
theorem q98 : (Jvm.Cond.instanceMethod ({ cls := "GridDuals", name := "room", desc := "(I)I" } : Jvm.MethodName)) ∈ lw_all := lw_g (lw_at lw_m1 84 rfl) rfl
theorem q99 : (Jvm.Cond.code ({ cls := "GridDuals", name := "room", desc := "(I)I" } : Jvm.MethodName) prog_1_method_21_code (2 : Nat) (Option.some Jvm.ClassFile.FieldType.int)) ∈ lw_all := lw_g (lw_at lw_m1 85 rfl) rfl
theorem q100 : (Jvm.Cond.methodLink "GridDuals" (71 : Nat) ({ cls := "GridDuals", name := "relax", desc := "(IIII)V" } : Jvm.MethodName)) ∈ lw_all := lw_g (lw_at lw_m1 86 rfl) rfl
theorem q101 : (Jvm.Cond.privateMethod ({ cls := "GridDuals", name := "relax", desc := "(IIII)V" } : Jvm.MethodName)) ∈ lw_tbl := lw_at lw_m1 87 rfl
theorem q102 : (Jvm.Cond.instanceMethod ({ cls := "GridDuals", name := "relax", desc := "(IIII)V" } : Jvm.MethodName)) ∈ lw_all := lw_g (lw_at lw_m1 88 rfl) rfl
theorem q103 : (Jvm.Cond.code ({ cls := "GridDuals", name := "relax", desc := "(IIII)V" } : Jvm.MethodName) prog_1_method_25_code (7 : Nat) (Option.none : Option Jvm.ClassFile.FieldType)) ∈ lw_all := lw_g (lw_at lw_m1 89 rfl) rfl
theorem q105 : (Jvm.Cond.instanceMethod ({ cls := "GridDuals", name := "weight", desc := "(I)I" } : Jvm.MethodName)) ∈ lw_all := lw_g (lw_at lw_m1 91 rfl) rfl
theorem q106 : (Jvm.Cond.selects "GridDuals" ({ cls := "GridDuals", name := "weight", desc := "(I)I" } : Jvm.MethodName) ({ cls := "GridDuals", name := "weight", desc := "(I)I" } : Jvm.MethodName)) ∈ lw_all := lw_g (lw_at lw_m1 92 rfl) rfl
theorem q107 : (Jvm.Cond.code ({ cls := "GridDuals", name := "weight", desc := "(I)I" } : Jvm.MethodName) prog_1_method_8_code (5 : Nat) (Option.some Jvm.ClassFile.FieldType.int)) ∈ lw_all := lw_g (lw_at lw_m1 93 rfl) rfl
theorem q109 : (Jvm.Cond.instanceMethod ({ cls := "GridDuals", name := "firstCut", desc := "()I" } : Jvm.MethodName)) ∈ lw_all := lw_g (lw_at lw_m1 95 rfl) rfl
theorem q110 : (Jvm.Cond.selects "GridDuals" ({ cls := "GridDuals", name := "firstCut", desc := "()I" } : Jvm.MethodName) ({ cls := "GridDuals", name := "firstCut", desc := "()I" } : Jvm.MethodName)) ∈ lw_all := lw_g (lw_at lw_m1 96 rfl) rfl
theorem q111 : (Jvm.Cond.code ({ cls := "GridDuals", name := "firstCut", desc := "()I" } : Jvm.MethodName) prog_1_method_9_code (1 : Nat) (Option.some Jvm.ClassFile.FieldType.int)) ∈ lw_all := lw_g (lw_at lw_m1 97 rfl) rfl
theorem q112 : (Jvm.Cond.methodLink "GridDuals" (53 : Nat) ({ cls := "GridDuals", name := "fill", desc := "(II)I" } : Jvm.MethodName)) ∈ lw_all := lw_g (lw_at lw_m1 98 rfl) rfl
theorem q113 : (Jvm.Cond.privateMethod ({ cls := "GridDuals", name := "fill", desc := "(II)I" } : Jvm.MethodName)) ∈ lw_tbl := lw_at lw_m1 99 rfl
theorem q114 : (Jvm.Cond.instanceMethod ({ cls := "GridDuals", name := "fill", desc := "(II)I" } : Jvm.MethodName)) ∈ lw_all := lw_g (lw_at lw_m1 100 rfl) rfl
theorem q115 : (Jvm.Cond.code ({ cls := "GridDuals", name := "fill", desc := "(II)I" } : Jvm.MethodName) prog_1_method_27_code (6 : Nat) (Option.some Jvm.ClassFile.FieldType.int)) ∈ lw_all := lw_g (lw_at lw_m1 101 rfl) rfl
theorem q116 : (Jvm.Cond.methodLink "GridDuals" (75 : Nat) ({ cls := "GridDuals", name := "search", desc := "(II)I" } : Jvm.MethodName)) ∈ lw_all := lw_g (lw_at lw_m1 102 rfl) rfl
theorem q117 : (Jvm.Cond.privateMethod ({ cls := "GridDuals", name := "search", desc := "(II)I" } : Jvm.MethodName)) ∈ lw_tbl := lw_at lw_m1 103 rfl
theorem q118 : (Jvm.Cond.instanceMethod ({ cls := "GridDuals", name := "search", desc := "(II)I" } : Jvm.MethodName)) ∈ lw_all := lw_g (lw_at lw_m1 104 rfl) rfl
theorem q119 : (Jvm.Cond.code ({ cls := "GridDuals", name := "search", desc := "(II)I" } : Jvm.MethodName) prog_1_method_28_code (9 : Nat) (Option.some Jvm.ClassFile.FieldType.int)) ∈ lw_all := lw_g (lw_at lw_m1 105 rfl) rfl
theorem q120 : (Jvm.Cond.methodLink "GridDuals" (81 : Nat) ({ cls := "GridDuals", name := "otherEnd", desc := "(II)I" } : Jvm.MethodName)) ∈ lw_all := lw_g (lw_at lw_m1 106 rfl) rfl
theorem q121 : (Jvm.Cond.static ({ cls := "GridDuals", name := "otherEnd", desc := "(II)I" } : Jvm.MethodName)) ∈ lw_all := lw_g (lw_at lw_m1 107 rfl) rfl
theorem q122 : (Jvm.Cond.code ({ cls := "GridDuals", name := "otherEnd", desc := "(II)I" } : Jvm.MethodName) prog_1_method_29_code (2 : Nat) (Option.some Jvm.ClassFile.FieldType.int)) ∈ lw_all := lw_g (lw_at lw_m1 108 rfl) rfl
theorem q123 : (Jvm.Cond.methodLink "GridDuals" (84 : Nat) ({ cls := "GridDuals", name := "left", desc := "(II)I" } : Jvm.MethodName)) ∈ lw_all := lw_g (lw_at lw_m1 109 rfl) rfl
theorem q124 : (Jvm.Cond.privateMethod ({ cls := "GridDuals", name := "left", desc := "(II)I" } : Jvm.MethodName)) ∈ lw_tbl := lw_at lw_m1 110 rfl
theorem q125 : (Jvm.Cond.instanceMethod ({ cls := "GridDuals", name := "left", desc := "(II)I" } : Jvm.MethodName)) ∈ lw_all := lw_g (lw_at lw_m1 111 rfl) rfl
theorem q126 : (Jvm.Cond.code ({ cls := "GridDuals", name := "left", desc := "(II)I" } : Jvm.MethodName) prog_1_method_26_code (3 : Nat) (Option.some Jvm.ClassFile.FieldType.int)) ∈ lw_all := lw_g (lw_at lw_m1 112 rfl) rfl
theorem q127 : (Jvm.Cond.methodLink "GridDuals" (78 : Nat) ({ cls := "GridDuals", name := "push", desc := "(II)I" } : Jvm.MethodName)) ∈ lw_all := lw_g (lw_at lw_m1 113 rfl) rfl
theorem q128 : (Jvm.Cond.privateMethod ({ cls := "GridDuals", name := "push", desc := "(II)I" } : Jvm.MethodName)) ∈ lw_tbl := lw_at lw_m1 114 rfl
theorem q129 : (Jvm.Cond.instanceMethod ({ cls := "GridDuals", name := "push", desc := "(II)I" } : Jvm.MethodName)) ∈ lw_all := lw_g (lw_at lw_m1 115 rfl) rfl
theorem q130 : (Jvm.Cond.code ({ cls := "GridDuals", name := "push", desc := "(II)I" } : Jvm.MethodName) prog_1_method_30_code (8 : Nat) (Option.some Jvm.ClassFile.FieldType.int)) ∈ lw_all := lw_g (lw_at lw_m1 116 rfl) rfl
theorem q131 : (Jvm.Cond.methodLink "GridDuals" (57 : Nat) ({ cls := "GridDuals", name := "reached", desc := "(IZ)I" } : Jvm.MethodName)) ∈ lw_all := lw_g (lw_at lw_m1 117 rfl) rfl
theorem q132 : (Jvm.Cond.privateMethod ({ cls := "GridDuals", name := "reached", desc := "(IZ)I" } : Jvm.MethodName)) ∈ lw_tbl := lw_at lw_m1 118 rfl
theorem q133 : (Jvm.Cond.instanceMethod ({ cls := "GridDuals", name := "reached", desc := "(IZ)I" } : Jvm.MethodName)) ∈ lw_all := lw_g (lw_at lw_m1 119 rfl) rfl
theorem q134 : (Jvm.Cond.code ({ cls := "GridDuals", name := "reached", desc := "(IZ)I" } : Jvm.MethodName) prog_1_method_31_code (10 : Nat) (Option.some Jvm.ClassFile.FieldType.int)) ∈ lw_all := lw_g (lw_at lw_m1 120 rfl) rfl
theorem q136 : (Jvm.Cond.instanceMethod ({ cls := "GridDuals", name := "lastCut", desc := "()I" } : Jvm.MethodName)) ∈ lw_all := lw_g (lw_at lw_m1 122 rfl) rfl
theorem q137 : (Jvm.Cond.selects "GridDuals" ({ cls := "GridDuals", name := "lastCut", desc := "()I" } : Jvm.MethodName) ({ cls := "GridDuals", name := "lastCut", desc := "()I" } : Jvm.MethodName)) ∈ lw_all := lw_g (lw_at lw_m1 123 rfl) rfl
theorem q138 : (Jvm.Cond.code ({ cls := "GridDuals", name := "lastCut", desc := "()I" } : Jvm.MethodName) prog_1_method_10_code (1 : Nat) (Option.some Jvm.ClassFile.FieldType.int)) ∈ lw_all := lw_g (lw_at lw_m1 124 rfl) rfl
theorem q140 : (Jvm.Cond.instanceMethod ({ cls := "GridDuals", name := "leastWith", desc := "(I)I" } : Jvm.MethodName)) ∈ lw_all := lw_g (lw_at lw_m1 126 rfl) rfl
theorem q141 : (Jvm.Cond.selects "GridDuals" ({ cls := "GridDuals", name := "leastWith", desc := "(I)I" } : Jvm.MethodName) ({ cls := "GridDuals", name := "leastWith", desc := "(I)I" } : Jvm.MethodName)) ∈ lw_all := lw_g (lw_at lw_m1 127 rfl) rfl
theorem q142 : (Jvm.Cond.code ({ cls := "GridDuals", name := "leastWith", desc := "(I)I" } : Jvm.MethodName) prog_1_method_11_code (2 : Nat) (Option.some Jvm.ClassFile.FieldType.int)) ∈ lw_all := lw_g (lw_at lw_m1 128 rfl) rfl
theorem q144 : (Jvm.Cond.instanceMethod ({ cls := "GridDuals", name := "leastWithout", desc := "(I)I" } : Jvm.MethodName)) ∈ lw_all := lw_g (lw_at lw_m1 130 rfl) rfl
theorem q145 : (Jvm.Cond.selects "GridDuals" ({ cls := "GridDuals", name := "leastWithout", desc := "(I)I" } : Jvm.MethodName) ({ cls := "GridDuals", name := "leastWithout", desc := "(I)I" } : Jvm.MethodName)) ∈ lw_all := lw_g (lw_at lw_m1 131 rfl) rfl
theorem q146 : (Jvm.Cond.code ({ cls := "GridDuals", name := "leastWithout", desc := "(I)I" } : Jvm.MethodName) prog_1_method_12_code (2 : Nat) (Option.some Jvm.ClassFile.FieldType.int)) ∈ lw_all := lw_g (lw_at lw_m1 132 rfl) rfl
theorem q148 : (Jvm.Cond.instanceMethod ({ cls := "GridDuals", name := "loss", desc := "(I)I" } : Jvm.MethodName)) ∈ lw_all := lw_g (lw_at lw_m1 134 rfl) rfl
theorem q149 : (Jvm.Cond.selects "GridDuals" ({ cls := "GridDuals", name := "loss", desc := "(I)I" } : Jvm.MethodName) ({ cls := "GridDuals", name := "loss", desc := "(I)I" } : Jvm.MethodName)) ∈ lw_all := lw_g (lw_at lw_m1 135 rfl) rfl
theorem q150 : (Jvm.Cond.code ({ cls := "GridDuals", name := "loss", desc := "(I)I" } : Jvm.MethodName) prog_1_method_13_code (5 : Nat) (Option.some Jvm.ClassFile.FieldType.int)) ∈ lw_all := lw_g (lw_at lw_m1 136 rfl) rfl
theorem q152 : (Jvm.Cond.instanceMethod ({ cls := "GridDuals", name := "gain", desc := "(II)I" } : Jvm.MethodName)) ∈ lw_all := lw_g (lw_at lw_m1 138 rfl) rfl
theorem q153 : (Jvm.Cond.selects "GridDuals" ({ cls := "GridDuals", name := "gain", desc := "(II)I" } : Jvm.MethodName) ({ cls := "GridDuals", name := "gain", desc := "(II)I" } : Jvm.MethodName)) ∈ lw_all := lw_g (lw_at lw_m1 139 rfl) rfl
theorem q154 : (Jvm.Cond.code ({ cls := "GridDuals", name := "gain", desc := "(II)I" } : Jvm.MethodName) prog_1_method_14_code (5 : Nat) (Option.some Jvm.ClassFile.FieldType.int)) ∈ lw_all := lw_g (lw_at lw_m1 140 rfl) rfl
theorem q156 : (Jvm.Cond.instanceMethod ({ cls := "GridDuals", name := "way", desc := "(II)I" } : Jvm.MethodName)) ∈ lw_all := lw_g (lw_at lw_m1 142 rfl) rfl
theorem q157 : (Jvm.Cond.selects "GridDuals" ({ cls := "GridDuals", name := "way", desc := "(II)I" } : Jvm.MethodName) ({ cls := "GridDuals", name := "way", desc := "(II)I" } : Jvm.MethodName)) ∈ lw_all := lw_g (lw_at lw_m1 143 rfl) rfl
theorem q158 : (Jvm.Cond.code ({ cls := "GridDuals", name := "way", desc := "(II)I" } : Jvm.MethodName) prog_1_method_15_code (4 : Nat) (Option.some Jvm.ClassFile.FieldType.int)) ∈ lw_all := lw_g (lw_at lw_m1 144 rfl) rfl
theorem q160 : (Jvm.Cond.instanceMethod ({ cls := "GridDuals", name := "cutStreets", desc := "()I" } : Jvm.MethodName)) ∈ lw_all := lw_g (lw_at lw_m1 146 rfl) rfl
theorem q161 : (Jvm.Cond.selects "GridDuals" ({ cls := "GridDuals", name := "cutStreets", desc := "()I" } : Jvm.MethodName) ({ cls := "GridDuals", name := "cutStreets", desc := "()I" } : Jvm.MethodName)) ∈ lw_all := lw_g (lw_at lw_m1 147 rfl) rfl
theorem q162 : (Jvm.Cond.code ({ cls := "GridDuals", name := "cutStreets", desc := "()I" } : Jvm.MethodName) prog_1_method_16_code (5 : Nat) (Option.some Jvm.ClassFile.FieldType.int)) ∈ lw_all := lw_g (lw_at lw_m1 148 rfl) rfl
theorem q163 : (Jvm.Cond.methodLink "GridDuals" (61 : Nat) ({ cls := "GridDuals", name := "firstCut", desc := "()I" } : Jvm.MethodName)) ∈ lw_all := lw_g (lw_at lw_m1 149 rfl) rfl
theorem in_X0 : ∀ w ∈ wsX00, w ∈ lw_all := lw_in wsX00 [32, 34, 36, 38, 40, 42, 44] (by decide +kernel) (by decide +kernel)

/-! GridDualsModel -/
def RX1 : String := "GridDualsModel"
def TX1 : u_T := fun k => match k with
  | 0 => ("GridDualsModel", "size", "[I", false)
  | 1 => ("GridDualsModel", "shut", "[Z", false)
  | 2 => ("GridDualsModel", "one", "[I", false)
  | _ => ("GridDualsModel", "two", "[I", false)
def tyX1 : Nat → FieldType := fun k => match k with
  | 0 => .array .int
  | 1 => .array .boolean
  | 2 => .array .int
  | _ => .array .int
abbrev wsX10 : List Cond := u_ws RX1 TX1 4
theorem nmX1 : ∀ a, a < 4 → ∀ b, b < 4 → a ≠ b → (TX1 a).2.1 ≠ (TX1 b).2.1 := by decide +kernel
theorem tyX1_ok : ∀ k, k < 4 → parseFieldDescriptor (TX1 k).2.2.1 = some (tyX1 k) := by decide +kernel
abbrev cX1_init : ByteArray := prog_3_method_1_code
def yX1_init : MethodName := ⟨RX1, "<init>", "()V"⟩
abbrev cX1_set : ByteArray := prog_3_method_4_code
def yX1_set : MethodName := ⟨RX1, "set", "(II)I"⟩
abbrev cX1_badStreet : ByteArray := prog_3_method_2_code
def yX1_badStreet : MethodName := ⟨RX1, "badStreet", "(I)Z"⟩
abbrev cX1_sow : ByteArray := prog_3_method_5_code
def yX1_sow : MethodName := ⟨RX1, "sow", "(II)I"⟩
abbrev cX1_close : ByteArray := prog_3_method_6_code
def yX1_close : MethodName := ⟨RX1, "close", "(II)I"⟩
abbrev cX1_capacity : ByteArray := prog_3_method_7_code
def yX1_capacity : MethodName := ⟨RX1, "capacity", "(I)I"⟩
abbrev cX1_between : ByteArray := prog_3_method_8_code
def yX1_between : MethodName := ⟨RX1, "between", "(II)I"⟩
abbrev cX1_bad : ByteArray := prog_3_method_3_code
def yX1_bad : MethodName := ⟨RX1, "bad", "(I)Z"⟩
abbrev cX1_flow : ByteArray := prog_3_method_12_code
def yX1_flow : MethodName := ⟨RX1, "flow", "()I"⟩
abbrev cX1_least : ByteArray := prog_3_method_11_code
def yX1_least : MethodName := ⟨RX1, "least", "(II)I"⟩
abbrev cX1_weigh : ByteArray := prog_3_method_10_code
def yX1_weigh : MethodName := ⟨RX1, "weigh", "(I)I"⟩
abbrev cX1_open : ByteArray := prog_3_method_9_code
def yX1_open : MethodName := ⟨RX1, "open", "(I)I"⟩
abbrev cX1_weight : ByteArray := prog_3_method_13_code
def yX1_weight : MethodName := ⟨RX1, "weight", "(I)I"⟩
abbrev cX1_firstCut : ByteArray := prog_3_method_15_code
def yX1_firstCut : MethodName := ⟨RX1, "firstCut", "()I"⟩
abbrev cX1_first : ByteArray := prog_3_method_14_code
def yX1_first : MethodName := ⟨RX1, "first", "()I"⟩
abbrev cX1_lastCut : ByteArray := prog_3_method_16_code
def yX1_lastCut : MethodName := ⟨RX1, "lastCut", "()I"⟩
abbrev cX1_leastWith : ByteArray := prog_3_method_17_code
def yX1_leastWith : MethodName := ⟨RX1, "leastWith", "(I)I"⟩
abbrev cX1_leastWithout : ByteArray := prog_3_method_18_code
def yX1_leastWithout : MethodName := ⟨RX1, "leastWithout", "(I)I"⟩
abbrev cX1_loss : ByteArray := prog_3_method_19_code
def yX1_loss : MethodName := ⟨RX1, "loss", "(I)I"⟩
abbrev cX1_gain : ByteArray := prog_3_method_20_code
def yX1_gain : MethodName := ⟨RX1, "gain", "(II)I"⟩
abbrev cX1_way : ByteArray := prog_3_method_21_code
def yX1_way : MethodName := ⟨RX1, "way", "(II)I"⟩
abbrev cX1_cutStreets : ByteArray := prog_3_method_22_code
def yX1_cutStreets : MethodName := ⟨RX1, "cutStreets", "()I"⟩
theorem q16 : (Jvm.Cond.initialized "GridDualsModel") ∈ lw_all := lw_g (lw_at lw_m1 2 rfl) rfl
theorem q165 : (Jvm.Cond.instantiable "GridDualsModel" (4 : Nat)) ∈ lw_all := lw_g (lw_at lw_m1 151 rfl) rfl
theorem q167 : (Jvm.Cond.instanceMethod ({ cls := "GridDualsModel", name := "<init>", desc := "()V" } : Jvm.MethodName)) ∈ lw_all := lw_g (lw_at lw_m1 153 rfl) rfl
theorem q168 : (Jvm.Cond.code ({ cls := "GridDualsModel", name := "<init>", desc := "()V" } : Jvm.MethodName) prog_3_method_1_code (2 : Nat) (Option.none : Option Jvm.ClassFile.FieldType)) ∈ lw_all := lw_g (lw_at lw_m1 154 rfl) rfl
theorem q169 : (Jvm.Cond.methodLink "GridDualsModel" (1 : Nat) ({ cls := "java/lang/Object", name := "<init>", desc := "()V" } : Jvm.MethodName)) ∈ lw_all := lw_g (lw_at lw_m1 155 rfl) rfl
theorem q170 : (Jvm.Cond.fieldLink "GridDualsModel" (7 : Nat) "GridDualsModel" "size" "[I") ∈ lw_all := lw_g (lw_at lw_m1 156 rfl) rfl
theorem q171 : (Jvm.Cond.fieldLink "GridDualsModel" (13 : Nat) "GridDualsModel" "shut" "[Z") ∈ lw_all := lw_g (lw_at lw_m1 157 rfl) rfl
theorem q172 : (Jvm.Cond.fieldLink "GridDualsModel" (17 : Nat) "GridDualsModel" "one" "[I") ∈ lw_all := lw_g (lw_at lw_m1 158 rfl) rfl
theorem q173 : (Jvm.Cond.fieldLink "GridDualsModel" (20 : Nat) "GridDualsModel" "two" "[I") ∈ lw_all := lw_g (lw_at lw_m1 159 rfl) rfl
theorem q174 : (Jvm.Cond.lays "GridDualsModel" "GridDualsModel" "size" "[I") ∈ lw_all := lw_g (lw_at lw_m1 160 rfl) rfl
theorem q175 : (Jvm.Cond.soleField "GridDualsModel" "size") ∈ lw_all := lw_g (lw_at lw_m1 161 rfl) rfl
theorem q176 : (Jvm.Cond.lays "GridDualsModel" "GridDualsModel" "shut" "[Z") ∈ lw_all := lw_g (lw_at lw_m1 162 rfl) rfl
theorem q177 : (Jvm.Cond.soleField "GridDualsModel" "shut") ∈ lw_all := lw_g (lw_at lw_m1 163 rfl) rfl
theorem q178 : (Jvm.Cond.lays "GridDualsModel" "GridDualsModel" "one" "[I") ∈ lw_all := lw_g (lw_at lw_m1 164 rfl) rfl
theorem q179 : (Jvm.Cond.soleField "GridDualsModel" "one") ∈ lw_all := lw_g (lw_at lw_m1 165 rfl) rfl
theorem q180 : (Jvm.Cond.lays "GridDualsModel" "GridDualsModel" "two" "[I") ∈ lw_all := lw_g (lw_at lw_m1 166 rfl) rfl
theorem q181 : (Jvm.Cond.soleField "GridDualsModel" "two") ∈ lw_all := lw_g (lw_at lw_m1 167 rfl) rfl
theorem q182 : (Jvm.Cond.superclass "GridDualsModel" "java/lang/Object") ∈ lw_all := lw_g (lw_at lw_m1 168 rfl) rfl
theorem q184 : (Jvm.Cond.instanceMethod ({ cls := "GridDualsModel", name := "set", desc := "(II)I" } : Jvm.MethodName)) ∈ lw_all := lw_g (lw_at lw_m1 170 rfl) rfl
theorem q185 : (Jvm.Cond.selects "GridDualsModel" ({ cls := "GridDualsModel", name := "set", desc := "(II)I" } : Jvm.MethodName) ({ cls := "GridDualsModel", name := "set", desc := "(II)I" } : Jvm.MethodName)) ∈ lw_all := lw_g (lw_at lw_m1 171 rfl) rfl
theorem q186 : (Jvm.Cond.code ({ cls := "GridDualsModel", name := "set", desc := "(II)I" } : Jvm.MethodName) prog_3_method_4_code (4 : Nat) (Option.some Jvm.ClassFile.FieldType.int)) ∈ lw_all := lw_g (lw_at lw_m1 172 rfl) rfl
theorem q187 : (Jvm.Cond.methodLink "GridDualsModel" (23 : Nat) ({ cls := "GridDualsModel", name := "badStreet", desc := "(I)Z" } : Jvm.MethodName)) ∈ lw_all := lw_g (lw_at lw_m1 173 rfl) rfl
theorem q188 : (Jvm.Cond.privateMethod ({ cls := "GridDualsModel", name := "badStreet", desc := "(I)Z" } : Jvm.MethodName)) ∈ lw_tbl := lw_at lw_m1 174 rfl
theorem q189 : (Jvm.Cond.instanceMethod ({ cls := "GridDualsModel", name := "badStreet", desc := "(I)Z" } : Jvm.MethodName)) ∈ lw_all := lw_g (lw_at lw_m1 175 rfl) rfl
theorem q190 : (Jvm.Cond.code ({ cls := "GridDualsModel", name := "badStreet", desc := "(I)Z" } : Jvm.MethodName) prog_3_method_2_code (2 : Nat) (Option.some Jvm.ClassFile.FieldType.boolean)) ∈ lw_all := lw_g (lw_at lw_m1 176 rfl) rfl
theorem q192 : (Jvm.Cond.instanceMethod ({ cls := "GridDualsModel", name := "sow", desc := "(II)I" } : Jvm.MethodName)) ∈ lw_all := lw_g (lw_at lw_m1 178 rfl) rfl
theorem q193 : (Jvm.Cond.selects "GridDualsModel" ({ cls := "GridDualsModel", name := "sow", desc := "(II)I" } : Jvm.MethodName) ({ cls := "GridDualsModel", name := "sow", desc := "(II)I" } : Jvm.MethodName)) ∈ lw_all := lw_g (lw_at lw_m1 179 rfl) rfl
theorem q194 : (Jvm.Cond.code ({ cls := "GridDualsModel", name := "sow", desc := "(II)I" } : Jvm.MethodName) prog_3_method_5_code (5 : Nat) (Option.some Jvm.ClassFile.FieldType.int)) ∈ lw_all := lw_g (lw_at lw_m1 180 rfl) rfl
theorem q196 : (Jvm.Cond.instanceMethod ({ cls := "GridDualsModel", name := "close", desc := "(II)I" } : Jvm.MethodName)) ∈ lw_all := lw_g (lw_at lw_m1 182 rfl) rfl
theorem q197 : (Jvm.Cond.selects "GridDualsModel" ({ cls := "GridDualsModel", name := "close", desc := "(II)I" } : Jvm.MethodName) ({ cls := "GridDualsModel", name := "close", desc := "(II)I" } : Jvm.MethodName)) ∈ lw_all := lw_g (lw_at lw_m1 183 rfl) rfl
theorem q198 : (Jvm.Cond.code ({ cls := "GridDualsModel", name := "close", desc := "(II)I" } : Jvm.MethodName) prog_3_method_6_code (4 : Nat) (Option.some Jvm.ClassFile.FieldType.int)) ∈ lw_all := lw_g (lw_at lw_m1 184 rfl) rfl
theorem q200 : (Jvm.Cond.instanceMethod ({ cls := "GridDualsModel", name := "capacity", desc := "(I)I" } : Jvm.MethodName)) ∈ lw_all := lw_g (lw_at lw_m1 186 rfl) rfl
theorem q201 : (Jvm.Cond.selects "GridDualsModel" ({ cls := "GridDualsModel", name := "capacity", desc := "(I)I" } : Jvm.MethodName) ({ cls := "GridDualsModel", name := "capacity", desc := "(I)I" } : Jvm.MethodName)) ∈ lw_all := lw_g (lw_at lw_m1 187 rfl) rfl
theorem q202 : (Jvm.Cond.code ({ cls := "GridDualsModel", name := "capacity", desc := "(I)I" } : Jvm.MethodName) prog_3_method_7_code (2 : Nat) (Option.some Jvm.ClassFile.FieldType.int)) ∈ lw_all := lw_g (lw_at lw_m1 188 rfl) rfl
theorem q204 : (Jvm.Cond.instanceMethod ({ cls := "GridDualsModel", name := "between", desc := "(II)I" } : Jvm.MethodName)) ∈ lw_all := lw_g (lw_at lw_m1 190 rfl) rfl
theorem q205 : (Jvm.Cond.selects "GridDualsModel" ({ cls := "GridDualsModel", name := "between", desc := "(II)I" } : Jvm.MethodName) ({ cls := "GridDualsModel", name := "between", desc := "(II)I" } : Jvm.MethodName)) ∈ lw_all := lw_g (lw_at lw_m1 191 rfl) rfl
theorem q206 : (Jvm.Cond.code ({ cls := "GridDualsModel", name := "between", desc := "(II)I" } : Jvm.MethodName) prog_3_method_8_code (4 : Nat) (Option.some Jvm.ClassFile.FieldType.int)) ∈ lw_all := lw_g (lw_at lw_m1 192 rfl) rfl
theorem q207 : (Jvm.Cond.methodLink "GridDualsModel" (27 : Nat) ({ cls := "GridDualsModel", name := "bad", desc := "(I)Z" } : Jvm.MethodName)) ∈ lw_all := lw_g (lw_at lw_m1 193 rfl) rfl
theorem q208 : (Jvm.Cond.privateMethod ({ cls := "GridDualsModel", name := "bad", desc := "(I)Z" } : Jvm.MethodName)) ∈ lw_tbl := lw_at lw_m1 194 rfl
theorem q209 : (Jvm.Cond.instanceMethod ({ cls := "GridDualsModel", name := "bad", desc := "(I)Z" } : Jvm.MethodName)) ∈ lw_all := lw_g (lw_at lw_m1 195 rfl) rfl
theorem q210 : (Jvm.Cond.code ({ cls := "GridDualsModel", name := "bad", desc := "(I)Z" } : Jvm.MethodName) prog_3_method_3_code (2 : Nat) (Option.some Jvm.ClassFile.FieldType.boolean)) ∈ lw_all := lw_g (lw_at lw_m1 196 rfl) rfl
theorem q212 : (Jvm.Cond.instanceMethod ({ cls := "GridDualsModel", name := "flow", desc := "()I" } : Jvm.MethodName)) ∈ lw_all := lw_g (lw_at lw_m1 198 rfl) rfl
theorem q213 : (Jvm.Cond.selects "GridDualsModel" ({ cls := "GridDualsModel", name := "flow", desc := "()I" } : Jvm.MethodName) ({ cls := "GridDualsModel", name := "flow", desc := "()I" } : Jvm.MethodName)) ∈ lw_all := lw_g (lw_at lw_m1 199 rfl) rfl
theorem q214 : (Jvm.Cond.code ({ cls := "GridDualsModel", name := "flow", desc := "()I" } : Jvm.MethodName) prog_3_method_12_code (1 : Nat) (Option.some Jvm.ClassFile.FieldType.int)) ∈ lw_all := lw_g (lw_at lw_m1 200 rfl) rfl
theorem q215 : (Jvm.Cond.methodLink "GridDualsModel" (37 : Nat) ({ cls := "GridDualsModel", name := "least", desc := "(II)I" } : Jvm.MethodName)) ∈ lw_all := lw_g (lw_at lw_m1 201 rfl) rfl
theorem q216 : (Jvm.Cond.privateMethod ({ cls := "GridDualsModel", name := "least", desc := "(II)I" } : Jvm.MethodName)) ∈ lw_tbl := lw_at lw_m1 202 rfl
theorem q217 : (Jvm.Cond.instanceMethod ({ cls := "GridDualsModel", name := "least", desc := "(II)I" } : Jvm.MethodName)) ∈ lw_all := lw_g (lw_at lw_m1 203 rfl) rfl
theorem q218 : (Jvm.Cond.code ({ cls := "GridDualsModel", name := "least", desc := "(II)I" } : Jvm.MethodName) prog_3_method_11_code (6 : Nat) (Option.some Jvm.ClassFile.FieldType.int)) ∈ lw_all := lw_g (lw_at lw_m1 204 rfl) rfl
theorem q219 : (Jvm.Cond.methodLink "GridDualsModel" (34 : Nat) ({ cls := "GridDualsModel", name := "weigh", desc := "(I)I" } : Jvm.MethodName)) ∈ lw_all := lw_g (lw_at lw_m1 205 rfl) rfl
theorem q220 : (Jvm.Cond.privateMethod ({ cls := "GridDualsModel", name := "weigh", desc := "(I)I" } : Jvm.MethodName)) ∈ lw_tbl := lw_at lw_m1 206 rfl
theorem q221 : (Jvm.Cond.instanceMethod ({ cls := "GridDualsModel", name := "weigh", desc := "(I)I" } : Jvm.MethodName)) ∈ lw_all := lw_g (lw_at lw_m1 207 rfl) rfl
theorem q222 : (Jvm.Cond.code ({ cls := "GridDualsModel", name := "weigh", desc := "(I)I" } : Jvm.MethodName) prog_3_method_10_code (4 : Nat) (Option.some Jvm.ClassFile.FieldType.int)) ∈ lw_all := lw_g (lw_at lw_m1 208 rfl) rfl
theorem q223 : (Jvm.Cond.methodLink "GridDualsModel" (30 : Nat) ({ cls := "GridDualsModel", name := "open", desc := "(I)I" } : Jvm.MethodName)) ∈ lw_all := lw_g (lw_at lw_m1 209 rfl) rfl
theorem q224 : (Jvm.Cond.privateMethod ({ cls := "GridDualsModel", name := "open", desc := "(I)I" } : Jvm.MethodName)) ∈ lw_tbl := lw_at lw_m1 210 rfl
theorem q225 : (Jvm.Cond.instanceMethod ({ cls := "GridDualsModel", name := "open", desc := "(I)I" } : Jvm.MethodName)) ∈ lw_all := lw_g (lw_at lw_m1 211 rfl) rfl
theorem q226 : (Jvm.Cond.code ({ cls := "GridDualsModel", name := "open", desc := "(I)I" } : Jvm.MethodName) prog_3_method_9_code (2 : Nat) (Option.some Jvm.ClassFile.FieldType.int)) ∈ lw_all := lw_g (lw_at lw_m1 212 rfl) rfl
theorem q228 : (Jvm.Cond.instanceMethod ({ cls := "GridDualsModel", name := "weight", desc := "(I)I" } : Jvm.MethodName)) ∈ lw_all := lw_g (lw_at lw_m1 214 rfl) rfl
theorem q229 : (Jvm.Cond.selects "GridDualsModel" ({ cls := "GridDualsModel", name := "weight", desc := "(I)I" } : Jvm.MethodName) ({ cls := "GridDualsModel", name := "weight", desc := "(I)I" } : Jvm.MethodName)) ∈ lw_all := lw_g (lw_at lw_m1 215 rfl) rfl
theorem q230 : (Jvm.Cond.code ({ cls := "GridDualsModel", name := "weight", desc := "(I)I" } : Jvm.MethodName) prog_3_method_13_code (2 : Nat) (Option.some Jvm.ClassFile.FieldType.int)) ∈ lw_all := lw_g (lw_at lw_m1 216 rfl) rfl
theorem q232 : (Jvm.Cond.instanceMethod ({ cls := "GridDualsModel", name := "firstCut", desc := "()I" } : Jvm.MethodName)) ∈ lw_all := lw_g (lw_at lw_m1 218 rfl) rfl
theorem q233 : (Jvm.Cond.selects "GridDualsModel" ({ cls := "GridDualsModel", name := "firstCut", desc := "()I" } : Jvm.MethodName) ({ cls := "GridDualsModel", name := "firstCut", desc := "()I" } : Jvm.MethodName)) ∈ lw_all := lw_g (lw_at lw_m1 219 rfl) rfl
theorem q234 : (Jvm.Cond.code ({ cls := "GridDualsModel", name := "firstCut", desc := "()I" } : Jvm.MethodName) prog_3_method_15_code (1 : Nat) (Option.some Jvm.ClassFile.FieldType.int)) ∈ lw_all := lw_g (lw_at lw_m1 220 rfl) rfl
theorem q235 : (Jvm.Cond.methodLink "GridDualsModel" (41 : Nat) ({ cls := "GridDualsModel", name := "first", desc := "()I" } : Jvm.MethodName)) ∈ lw_all := lw_g (lw_at lw_m1 221 rfl) rfl
theorem q236 : (Jvm.Cond.privateMethod ({ cls := "GridDualsModel", name := "first", desc := "()I" } : Jvm.MethodName)) ∈ lw_tbl := lw_at lw_m1 222 rfl
theorem q237 : (Jvm.Cond.instanceMethod ({ cls := "GridDualsModel", name := "first", desc := "()I" } : Jvm.MethodName)) ∈ lw_all := lw_g (lw_at lw_m1 223 rfl) rfl
theorem q238 : (Jvm.Cond.code ({ cls := "GridDualsModel", name := "first", desc := "()I" } : Jvm.MethodName) prog_3_method_14_code (4 : Nat) (Option.some Jvm.ClassFile.FieldType.int)) ∈ lw_all := lw_g (lw_at lw_m1 224 rfl) rfl
theorem q240 : (Jvm.Cond.instanceMethod ({ cls := "GridDualsModel", name := "lastCut", desc := "()I" } : Jvm.MethodName)) ∈ lw_all := lw_g (lw_at lw_m1 226 rfl) rfl
theorem q241 : (Jvm.Cond.selects "GridDualsModel" ({ cls := "GridDualsModel", name := "lastCut", desc := "()I" } : Jvm.MethodName) ({ cls := "GridDualsModel", name := "lastCut", desc := "()I" } : Jvm.MethodName)) ∈ lw_all := lw_g (lw_at lw_m1 227 rfl) rfl
theorem q242 : (Jvm.Cond.code ({ cls := "GridDualsModel", name := "lastCut", desc := "()I" } : Jvm.MethodName) prog_3_method_16_code (4 : Nat) (Option.some Jvm.ClassFile.FieldType.int)) ∈ lw_all := lw_g (lw_at lw_m1 228 rfl) rfl
theorem q244 : (Jvm.Cond.instanceMethod ({ cls := "GridDualsModel", name := "leastWith", desc := "(I)I" } : Jvm.MethodName)) ∈ lw_all := lw_g (lw_at lw_m1 230 rfl) rfl
theorem q245 : (Jvm.Cond.selects "GridDualsModel" ({ cls := "GridDualsModel", name := "leastWith", desc := "(I)I" } : Jvm.MethodName) ({ cls := "GridDualsModel", name := "leastWith", desc := "(I)I" } : Jvm.MethodName)) ∈ lw_all := lw_g (lw_at lw_m1 231 rfl) rfl
theorem q246 : (Jvm.Cond.code ({ cls := "GridDualsModel", name := "leastWith", desc := "(I)I" } : Jvm.MethodName) prog_3_method_17_code (2 : Nat) (Option.some Jvm.ClassFile.FieldType.int)) ∈ lw_all := lw_g (lw_at lw_m1 232 rfl) rfl
theorem q248 : (Jvm.Cond.instanceMethod ({ cls := "GridDualsModel", name := "leastWithout", desc := "(I)I" } : Jvm.MethodName)) ∈ lw_all := lw_g (lw_at lw_m1 234 rfl) rfl
theorem q249 : (Jvm.Cond.selects "GridDualsModel" ({ cls := "GridDualsModel", name := "leastWithout", desc := "(I)I" } : Jvm.MethodName) ({ cls := "GridDualsModel", name := "leastWithout", desc := "(I)I" } : Jvm.MethodName)) ∈ lw_all := lw_g (lw_at lw_m1 235 rfl) rfl
theorem q250 : (Jvm.Cond.code ({ cls := "GridDualsModel", name := "leastWithout", desc := "(I)I" } : Jvm.MethodName) prog_3_method_18_code (2 : Nat) (Option.some Jvm.ClassFile.FieldType.int)) ∈ lw_all := lw_g (lw_at lw_m1 236 rfl) rfl
theorem q252 : (Jvm.Cond.instanceMethod ({ cls := "GridDualsModel", name := "loss", desc := "(I)I" } : Jvm.MethodName)) ∈ lw_all := lw_g (lw_at lw_m1 238 rfl) rfl
theorem q253 : (Jvm.Cond.selects "GridDualsModel" ({ cls := "GridDualsModel", name := "loss", desc := "(I)I" } : Jvm.MethodName) ({ cls := "GridDualsModel", name := "loss", desc := "(I)I" } : Jvm.MethodName)) ∈ lw_all := lw_g (lw_at lw_m1 239 rfl) rfl
theorem q254 : (Jvm.Cond.code ({ cls := "GridDualsModel", name := "loss", desc := "(I)I" } : Jvm.MethodName) prog_3_method_19_code (5 : Nat) (Option.some Jvm.ClassFile.FieldType.int)) ∈ lw_all := lw_g (lw_at lw_m2 0 rfl) rfl
theorem q256 : (Jvm.Cond.instanceMethod ({ cls := "GridDualsModel", name := "gain", desc := "(II)I" } : Jvm.MethodName)) ∈ lw_all := lw_g (lw_at lw_m2 2 rfl) rfl
theorem q257 : (Jvm.Cond.selects "GridDualsModel" ({ cls := "GridDualsModel", name := "gain", desc := "(II)I" } : Jvm.MethodName) ({ cls := "GridDualsModel", name := "gain", desc := "(II)I" } : Jvm.MethodName)) ∈ lw_all := lw_g (lw_at lw_m2 3 rfl) rfl
theorem q258 : (Jvm.Cond.code ({ cls := "GridDualsModel", name := "gain", desc := "(II)I" } : Jvm.MethodName) prog_3_method_20_code (5 : Nat) (Option.some Jvm.ClassFile.FieldType.int)) ∈ lw_all := lw_g (lw_at lw_m2 4 rfl) rfl
theorem q260 : (Jvm.Cond.instanceMethod ({ cls := "GridDualsModel", name := "way", desc := "(II)I" } : Jvm.MethodName)) ∈ lw_all := lw_g (lw_at lw_m2 6 rfl) rfl
theorem q261 : (Jvm.Cond.selects "GridDualsModel" ({ cls := "GridDualsModel", name := "way", desc := "(II)I" } : Jvm.MethodName) ({ cls := "GridDualsModel", name := "way", desc := "(II)I" } : Jvm.MethodName)) ∈ lw_all := lw_g (lw_at lw_m2 7 rfl) rfl
theorem q262 : (Jvm.Cond.code ({ cls := "GridDualsModel", name := "way", desc := "(II)I" } : Jvm.MethodName) prog_3_method_21_code (7 : Nat) (Option.some Jvm.ClassFile.FieldType.int)) ∈ lw_all := lw_g (lw_at lw_m2 8 rfl) rfl
theorem q264 : (Jvm.Cond.instanceMethod ({ cls := "GridDualsModel", name := "cutStreets", desc := "()I" } : Jvm.MethodName)) ∈ lw_all := lw_g (lw_at lw_m2 10 rfl) rfl
theorem q265 : (Jvm.Cond.selects "GridDualsModel" ({ cls := "GridDualsModel", name := "cutStreets", desc := "()I" } : Jvm.MethodName) ({ cls := "GridDualsModel", name := "cutStreets", desc := "()I" } : Jvm.MethodName)) ∈ lw_all := lw_g (lw_at lw_m2 11 rfl) rfl
theorem q266 : (Jvm.Cond.code ({ cls := "GridDualsModel", name := "cutStreets", desc := "()I" } : Jvm.MethodName) prog_3_method_22_code (4 : Nat) (Option.some Jvm.ClassFile.FieldType.int)) ∈ lw_all := lw_g (lw_at lw_m2 12 rfl) rfl
theorem in_X1 : ∀ w ∈ wsX10, w ∈ lw_all := lw_in wsX10 [174, 176, 178, 180] (by decide +kernel) (by decide +kernel)

theorem q47 : (Jvm.Cond.arrayClass Jvm.ClassFile.FieldType.int) ∈ lw_all := lw_g (lw_at lw_m1 33 rfl) rfl
theorem q48 : (Jvm.Cond.arrayClass Jvm.ClassFile.FieldType.boolean) ∈ lw_all := lw_g (lw_at lw_m1 34 rfl) rfl

theorem q14 : (Jvm.Cond.initialized "GridDualsLaw") ∈ lw_all := lw_g (lw_at lw_m1 0 rfl) rfl
theorem q17 : (Jvm.Cond.classLink "GridDualsLaw" (7 : Nat) "GridDuals") ∈ lw_all := lw_g (lw_at lw_m1 3 rfl) rfl
theorem q19 : (Jvm.Cond.methodLink "GridDualsLaw" (9 : Nat) ({ cls := "GridDuals", name := "<init>", desc := "()V" } : Jvm.MethodName)) ∈ lw_all := lw_g (lw_at lw_m1 5 rfl) rfl
theorem q49 : (Jvm.Cond.methodLink "GridDualsLaw" (13 : Nat) ({ cls := "GridDuals", name := "set", desc := "(II)I" } : Jvm.MethodName)) ∈ lw_all := lw_g (lw_at lw_m1 35 rfl) rfl
theorem q56 : (Jvm.Cond.methodLink "GridDualsLaw" (18 : Nat) ({ cls := "GridDuals", name := "sow", desc := "(II)I" } : Jvm.MethodName)) ∈ lw_all := lw_g (lw_at lw_m1 42 rfl) rfl
theorem q60 : (Jvm.Cond.methodLink "GridDualsLaw" (22 : Nat) ({ cls := "GridDuals", name := "close", desc := "(II)I" } : Jvm.MethodName)) ∈ lw_all := lw_g (lw_at lw_m1 46 rfl) rfl
theorem q64 : (Jvm.Cond.methodLink "GridDualsLaw" (26 : Nat) ({ cls := "GridDuals", name := "capacity", desc := "(I)I" } : Jvm.MethodName)) ∈ lw_all := lw_g (lw_at lw_m1 50 rfl) rfl
theorem q68 : (Jvm.Cond.methodLink "GridDualsLaw" (31 : Nat) ({ cls := "GridDuals", name := "between", desc := "(II)I" } : Jvm.MethodName)) ∈ lw_all := lw_g (lw_at lw_m1 54 rfl) rfl
theorem q81 : (Jvm.Cond.methodLink "GridDualsLaw" (35 : Nat) ({ cls := "GridDuals", name := "flow", desc := "()I" } : Jvm.MethodName)) ∈ lw_all := lw_g (lw_at lw_m1 67 rfl) rfl
theorem q104 : (Jvm.Cond.methodLink "GridDualsLaw" (40 : Nat) ({ cls := "GridDuals", name := "weight", desc := "(I)I" } : Jvm.MethodName)) ∈ lw_all := lw_g (lw_at lw_m1 90 rfl) rfl
theorem q108 : (Jvm.Cond.methodLink "GridDualsLaw" (44 : Nat) ({ cls := "GridDuals", name := "firstCut", desc := "()I" } : Jvm.MethodName)) ∈ lw_all := lw_g (lw_at lw_m1 94 rfl) rfl
theorem q135 : (Jvm.Cond.methodLink "GridDualsLaw" (48 : Nat) ({ cls := "GridDuals", name := "lastCut", desc := "()I" } : Jvm.MethodName)) ∈ lw_all := lw_g (lw_at lw_m1 121 rfl) rfl
theorem q139 : (Jvm.Cond.methodLink "GridDualsLaw" (52 : Nat) ({ cls := "GridDuals", name := "leastWith", desc := "(I)I" } : Jvm.MethodName)) ∈ lw_all := lw_g (lw_at lw_m1 125 rfl) rfl
theorem q143 : (Jvm.Cond.methodLink "GridDualsLaw" (56 : Nat) ({ cls := "GridDuals", name := "leastWithout", desc := "(I)I" } : Jvm.MethodName)) ∈ lw_all := lw_g (lw_at lw_m1 129 rfl) rfl
theorem q147 : (Jvm.Cond.methodLink "GridDualsLaw" (60 : Nat) ({ cls := "GridDuals", name := "loss", desc := "(I)I" } : Jvm.MethodName)) ∈ lw_all := lw_g (lw_at lw_m1 133 rfl) rfl
theorem q151 : (Jvm.Cond.methodLink "GridDualsLaw" (64 : Nat) ({ cls := "GridDuals", name := "gain", desc := "(II)I" } : Jvm.MethodName)) ∈ lw_all := lw_g (lw_at lw_m1 137 rfl) rfl
theorem q155 : (Jvm.Cond.methodLink "GridDualsLaw" (68 : Nat) ({ cls := "GridDuals", name := "way", desc := "(II)I" } : Jvm.MethodName)) ∈ lw_all := lw_g (lw_at lw_m1 141 rfl) rfl
theorem q159 : (Jvm.Cond.methodLink "GridDualsLaw" (72 : Nat) ({ cls := "GridDuals", name := "cutStreets", desc := "()I" } : Jvm.MethodName)) ∈ lw_all := lw_g (lw_at lw_m1 145 rfl) rfl
theorem q164 : (Jvm.Cond.classLink "GridDualsLaw" (10 : Nat) "GridDualsModel") ∈ lw_all := lw_g (lw_at lw_m1 150 rfl) rfl
theorem q166 : (Jvm.Cond.methodLink "GridDualsLaw" (12 : Nat) ({ cls := "GridDualsModel", name := "<init>", desc := "()V" } : Jvm.MethodName)) ∈ lw_all := lw_g (lw_at lw_m1 152 rfl) rfl
theorem q183 : (Jvm.Cond.methodLink "GridDualsLaw" (17 : Nat) ({ cls := "GridDualsModel", name := "set", desc := "(II)I" } : Jvm.MethodName)) ∈ lw_all := lw_g (lw_at lw_m1 169 rfl) rfl
theorem q191 : (Jvm.Cond.methodLink "GridDualsLaw" (21 : Nat) ({ cls := "GridDualsModel", name := "sow", desc := "(II)I" } : Jvm.MethodName)) ∈ lw_all := lw_g (lw_at lw_m1 177 rfl) rfl
theorem q195 : (Jvm.Cond.methodLink "GridDualsLaw" (25 : Nat) ({ cls := "GridDualsModel", name := "close", desc := "(II)I" } : Jvm.MethodName)) ∈ lw_all := lw_g (lw_at lw_m1 181 rfl) rfl
theorem q199 : (Jvm.Cond.methodLink "GridDualsLaw" (30 : Nat) ({ cls := "GridDualsModel", name := "capacity", desc := "(I)I" } : Jvm.MethodName)) ∈ lw_all := lw_g (lw_at lw_m1 185 rfl) rfl
theorem q203 : (Jvm.Cond.methodLink "GridDualsLaw" (34 : Nat) ({ cls := "GridDualsModel", name := "between", desc := "(II)I" } : Jvm.MethodName)) ∈ lw_all := lw_g (lw_at lw_m1 189 rfl) rfl
theorem q211 : (Jvm.Cond.methodLink "GridDualsLaw" (39 : Nat) ({ cls := "GridDualsModel", name := "flow", desc := "()I" } : Jvm.MethodName)) ∈ lw_all := lw_g (lw_at lw_m1 197 rfl) rfl
theorem q227 : (Jvm.Cond.methodLink "GridDualsLaw" (43 : Nat) ({ cls := "GridDualsModel", name := "weight", desc := "(I)I" } : Jvm.MethodName)) ∈ lw_all := lw_g (lw_at lw_m1 213 rfl) rfl
theorem q231 : (Jvm.Cond.methodLink "GridDualsLaw" (47 : Nat) ({ cls := "GridDualsModel", name := "firstCut", desc := "()I" } : Jvm.MethodName)) ∈ lw_all := lw_g (lw_at lw_m1 217 rfl) rfl
theorem q239 : (Jvm.Cond.methodLink "GridDualsLaw" (51 : Nat) ({ cls := "GridDualsModel", name := "lastCut", desc := "()I" } : Jvm.MethodName)) ∈ lw_all := lw_g (lw_at lw_m1 225 rfl) rfl
theorem q243 : (Jvm.Cond.methodLink "GridDualsLaw" (55 : Nat) ({ cls := "GridDualsModel", name := "leastWith", desc := "(I)I" } : Jvm.MethodName)) ∈ lw_all := lw_g (lw_at lw_m1 229 rfl) rfl
theorem q247 : (Jvm.Cond.methodLink "GridDualsLaw" (59 : Nat) ({ cls := "GridDualsModel", name := "leastWithout", desc := "(I)I" } : Jvm.MethodName)) ∈ lw_all := lw_g (lw_at lw_m1 233 rfl) rfl
theorem q251 : (Jvm.Cond.methodLink "GridDualsLaw" (63 : Nat) ({ cls := "GridDualsModel", name := "loss", desc := "(I)I" } : Jvm.MethodName)) ∈ lw_all := lw_g (lw_at lw_m1 237 rfl) rfl
theorem q255 : (Jvm.Cond.methodLink "GridDualsLaw" (67 : Nat) ({ cls := "GridDualsModel", name := "gain", desc := "(II)I" } : Jvm.MethodName)) ∈ lw_all := lw_g (lw_at lw_m2 1 rfl) rfl
theorem q259 : (Jvm.Cond.methodLink "GridDualsLaw" (71 : Nat) ({ cls := "GridDualsModel", name := "way", desc := "(II)I" } : Jvm.MethodName)) ∈ lw_all := lw_g (lw_at lw_m2 5 rfl) rfl
theorem q263 : (Jvm.Cond.methodLink "GridDualsLaw" (75 : Nat) ({ cls := "GridDualsModel", name := "cutStreets", desc := "()I" } : Jvm.MethodName)) ∈ lw_all := lw_g (lw_at lw_m2 9 rfl) rfl

/-! the law's own entry -/
abbrev cL_law : ByteArray := code
end
section
set_option maxRecDepth 100000
theorem dX0_init_0 : decode cX0_init 0 = .ok (.aload_n 0, 1) := by decide +kernel
theorem dX0_init_1 : decode cX0_init 1 = .ok (.invokespecial 1, 3) := by decide +kernel
theorem dX0_init_4 : decode cX0_init 4 = .ok (.aload_n 0, 1) := by decide +kernel
theorem dX0_init_5 : decode cX0_init 5 = .ok (.bipush 17, 2) := by decide +kernel
theorem dX0_init_7 : decode cX0_init 7 = .ok (.newarray .int, 2) := by decide +kernel
theorem dX0_init_9 : decode cX0_init 9 = .ok (.putfield 7, 3) := by decide +kernel
theorem dX0_init_12 : decode cX0_init 12 = .ok (.aload_n 0, 1) := by decide +kernel
theorem dX0_init_13 : decode cX0_init 13 = .ok (.bipush 17, 2) := by decide +kernel
theorem dX0_init_15 : decode cX0_init 15 = .ok (.newarray .boolean, 2) := by decide +kernel
theorem dX0_init_17 : decode cX0_init 17 = .ok (.putfield 13, 3) := by decide +kernel
theorem dX0_init_20 : decode cX0_init 20 = .ok (.aload_n 0, 1) := by decide +kernel
theorem dX0_init_21 : decode cX0_init 21 = .ok (.bipush 17, 2) := by decide +kernel
theorem dX0_init_23 : decode cX0_init 23 = .ok (.newarray .int, 2) := by decide +kernel
theorem dX0_init_25 : decode cX0_init 25 = .ok (.putfield 17, 3) := by decide +kernel
theorem dX0_init_28 : decode cX0_init 28 = .ok (.aload_n 0, 1) := by decide +kernel
theorem dX0_init_29 : decode cX0_init 29 = .ok (.bipush 8, 2) := by decide +kernel
theorem dX0_init_31 : decode cX0_init 31 = .ok (.newarray .int, 2) := by decide +kernel
theorem dX0_init_33 : decode cX0_init 33 = .ok (.putfield 20, 3) := by decide +kernel
theorem dX0_init_36 : decode cX0_init 36 = .ok (.aload_n 0, 1) := by decide +kernel
theorem dX0_init_37 : decode cX0_init 37 = .ok (.bipush 8, 2) := by decide +kernel
theorem dX0_init_39 : decode cX0_init 39 = .ok (.newarray .boolean, 2) := by decide +kernel
theorem dX0_init_41 : decode cX0_init 41 = .ok (.putfield 23, 3) := by decide +kernel
theorem dX0_init_44 : decode cX0_init 44 = .ok (.aload_n 0, 1) := by decide +kernel
theorem dX0_init_45 : decode cX0_init 45 = .ok (.bipush 12, 2) := by decide +kernel
theorem dX0_init_47 : decode cX0_init 47 = .ok (.newarray .int, 2) := by decide +kernel
theorem dX0_init_49 : decode cX0_init 49 = .ok (.putfield 26, 3) := by decide +kernel
theorem dX0_init_52 : decode cX0_init 52 = .ok (.aload_n 0, 1) := by decide +kernel
theorem dX0_init_53 : decode cX0_init 53 = .ok (.bipush 12, 2) := by decide +kernel
theorem dX0_init_55 : decode cX0_init 55 = .ok (.newarray .int, 2) := by decide +kernel
theorem dX0_init_57 : decode cX0_init 57 = .ok (.putfield 29, 3) := by decide +kernel
theorem dX0_init_60 : decode cX0_init 60 = .ok (.aload_n 0, 1) := by decide +kernel
theorem dX0_init_61 : decode cX0_init 61 = .ok (.getfield 20, 3) := by decide +kernel
theorem dX0_init_64 : decode cX0_init 64 = .ok (.bipush 6, 2) := by decide +kernel
theorem dX0_init_66 : decode cX0_init 66 = .ok (.iconst 0, 1) := by decide +kernel
theorem dX0_init_67 : decode cX0_init 67 = .ok (.iastore, 1) := by decide +kernel
theorem dX0_init_68 : decode cX0_init 68 = .ok (.return_, 1) := by decide +kernel
theorem dX0_set_0 : decode cX0_set 0 = .ok (.iload_n 1, 1) := by decide +kernel
theorem dX0_set_1 : decode cX0_set 1 = .ok (.invokestatic 32, 3) := by decide +kernel
theorem dX0_set_4 : decode cX0_set 4 = .ok (.ifCond .ne 5, 3) := by decide +kernel
theorem dX0_set_7 : decode cX0_set 7 = .ok (.iconst (-1), 1) := by decide +kernel
theorem dX0_set_8 : decode cX0_set 8 = .ok (.ireturn, 1) := by decide +kernel
theorem dX0_set_9 : decode cX0_set 9 = .ok (.iload_n 2, 1) := by decide +kernel
theorem dX0_set_10 : decode cX0_set 10 = .ok (.ifCond .lt 9, 3) := by decide +kernel
theorem dX0_set_13 : decode cX0_set 13 = .ok (.iload_n 2, 1) := by decide +kernel
theorem dX0_set_14 : decode cX0_set 14 = .ok (.bipush 20, 2) := by decide +kernel
theorem dX0_set_16 : decode cX0_set 16 = .ok (.if_icmp .le 6, 3) := by decide +kernel
theorem dX0_set_19 : decode cX0_set 19 = .ok (.bipush (-2), 2) := by decide +kernel
theorem dX0_set_21 : decode cX0_set 21 = .ok (.ireturn, 1) := by decide +kernel
theorem dX0_set_22 : decode cX0_set 22 = .ok (.aload_n 0, 1) := by decide +kernel
theorem dX0_set_23 : decode cX0_set 23 = .ok (.getfield 7, 3) := by decide +kernel
theorem dX0_set_26 : decode cX0_set 26 = .ok (.iload_n 1, 1) := by decide +kernel
theorem dX0_set_27 : decode cX0_set 27 = .ok (.iaload, 1) := by decide +kernel
theorem dX0_set_28 : decode cX0_set 28 = .ok (.istore_n 3, 1) := by decide +kernel
theorem dX0_set_29 : decode cX0_set 29 = .ok (.aload_n 0, 1) := by decide +kernel
theorem dX0_set_30 : decode cX0_set 30 = .ok (.getfield 7, 3) := by decide +kernel
theorem dX0_set_33 : decode cX0_set 33 = .ok (.iload_n 1, 1) := by decide +kernel
theorem dX0_set_34 : decode cX0_set 34 = .ok (.iload_n 2, 1) := by decide +kernel
theorem dX0_set_35 : decode cX0_set 35 = .ok (.iastore, 1) := by decide +kernel
theorem dX0_set_36 : decode cX0_set 36 = .ok (.iload_n 3, 1) := by decide +kernel
theorem dX0_set_37 : decode cX0_set 37 = .ok (.ireturn, 1) := by decide +kernel
theorem dX0_isStreet_0 : decode cX0_isStreet 0 = .ok (.iload_n 0, 1) := by decide +kernel
theorem dX0_isStreet_1 : decode cX0_isStreet 1 = .ok (.ifCond .lt 13, 3) := by decide +kernel
theorem dX0_isStreet_4 : decode cX0_isStreet 4 = .ok (.iload_n 0, 1) := by decide +kernel
theorem dX0_isStreet_5 : decode cX0_isStreet 5 = .ok (.bipush 17, 2) := by decide +kernel
theorem dX0_isStreet_7 : decode cX0_isStreet 7 = .ok (.if_icmp .ge 7, 3) := by decide +kernel
theorem dX0_isStreet_10 : decode cX0_isStreet 10 = .ok (.iconst 1, 1) := by decide +kernel
theorem dX0_isStreet_11 : decode cX0_isStreet 11 = .ok (.goto 4, 3) := by decide +kernel
theorem dX0_isStreet_14 : decode cX0_isStreet 14 = .ok (.iconst 0, 1) := by decide +kernel
theorem dX0_isStreet_15 : decode cX0_isStreet 15 = .ok (.ireturn, 1) := by decide +kernel
theorem dX0_sow_0 : decode cX0_sow 0 = .ok (.iload_n 1, 1) := by decide +kernel
theorem dX0_sow_1 : decode cX0_sow 1 = .ok (.ifCond .lt 9, 3) := by decide +kernel
theorem dX0_sow_4 : decode cX0_sow 4 = .ok (.iload_n 1, 1) := by decide +kernel
theorem dX0_sow_5 : decode cX0_sow 5 = .ok (.bipush 20, 2) := by decide +kernel
theorem dX0_sow_7 : decode cX0_sow 7 = .ok (.if_icmp .le 5, 3) := by decide +kernel
theorem dX0_sow_10 : decode cX0_sow 10 = .ok (.iconst (-1), 1) := by decide +kernel
theorem dX0_sow_11 : decode cX0_sow 11 = .ok (.ireturn, 1) := by decide +kernel
theorem dX0_sow_12 : decode cX0_sow 12 = .ok (.iload_n 2, 1) := by decide +kernel
theorem dX0_sow_13 : decode cX0_sow 13 = .ok (.ifCond .lt 9, 3) := by decide +kernel
theorem dX0_sow_16 : decode cX0_sow 16 = .ok (.iload_n 2, 1) := by decide +kernel
theorem dX0_sow_17 : decode cX0_sow 17 = .ok (.bipush 20, 2) := by decide +kernel
theorem dX0_sow_19 : decode cX0_sow 19 = .ok (.if_icmp .le 6, 3) := by decide +kernel
theorem dX0_sow_22 : decode cX0_sow 22 = .ok (.bipush (-2), 2) := by decide +kernel
theorem dX0_sow_24 : decode cX0_sow 24 = .ok (.ireturn, 1) := by decide +kernel
theorem dX0_sow_25 : decode cX0_sow 25 = .ok (.iconst 0, 1) := by decide +kernel
theorem dX0_sow_26 : decode cX0_sow 26 = .ok (.istore_n 3, 1) := by decide +kernel
theorem dX0_sow_27 : decode cX0_sow 27 = .ok (.iconst 0, 1) := by decide +kernel
theorem dX0_sow_28 : decode cX0_sow 28 = .ok (.istore 4, 2) := by decide +kernel
theorem dX0_sow_30 : decode cX0_sow 30 = .ok (.iload 4, 2) := by decide +kernel
theorem dX0_sow_32 : decode cX0_sow 32 = .ok (.bipush 17, 2) := by decide +kernel
theorem dX0_sow_34 : decode cX0_sow 34 = .ok (.if_icmp .ge 44, 3) := by decide +kernel
theorem dX0_sow_37 : decode cX0_sow 37 = .ok (.aload_n 0, 1) := by decide +kernel
theorem dX0_sow_38 : decode cX0_sow 38 = .ok (.getfield 7, 3) := by decide +kernel
theorem dX0_sow_41 : decode cX0_sow 41 = .ok (.iload 4, 2) := by decide +kernel
theorem dX0_sow_43 : decode cX0_sow 43 = .ok (.iload_n 1, 1) := by decide +kernel
theorem dX0_sow_44 : decode cX0_sow 44 = .ok (.bipush 7, 2) := by decide +kernel
theorem dX0_sow_46 : decode cX0_sow 46 = .ok (.iload 4, 2) := by decide +kernel
theorem dX0_sow_48 : decode cX0_sow 48 = .ok (.imul, 1) := by decide +kernel
theorem dX0_sow_49 : decode cX0_sow 49 = .ok (.iadd, 1) := by decide +kernel
theorem dX0_sow_50 : decode cX0_sow 50 = .ok (.iload 4, 2) := by decide +kernel
theorem dX0_sow_52 : decode cX0_sow 52 = .ok (.iload 4, 2) := by decide +kernel
theorem dX0_sow_54 : decode cX0_sow 54 = .ok (.imul, 1) := by decide +kernel
theorem dX0_sow_55 : decode cX0_sow 55 = .ok (.iload_n 2, 1) := by decide +kernel
theorem dX0_sow_56 : decode cX0_sow 56 = .ok (.imul, 1) := by decide +kernel
theorem dX0_sow_57 : decode cX0_sow 57 = .ok (.iadd, 1) := by decide +kernel
theorem dX0_sow_58 : decode cX0_sow 58 = .ok (.bipush 21, 2) := by decide +kernel
theorem dX0_sow_60 : decode cX0_sow 60 = .ok (.irem, 1) := by decide +kernel
theorem dX0_sow_61 : decode cX0_sow 61 = .ok (.iastore, 1) := by decide +kernel
theorem dX0_sow_62 : decode cX0_sow 62 = .ok (.iload_n 3, 1) := by decide +kernel
theorem dX0_sow_63 : decode cX0_sow 63 = .ok (.aload_n 0, 1) := by decide +kernel
theorem dX0_sow_64 : decode cX0_sow 64 = .ok (.getfield 7, 3) := by decide +kernel
theorem dX0_sow_67 : decode cX0_sow 67 = .ok (.iload 4, 2) := by decide +kernel
theorem dX0_sow_69 : decode cX0_sow 69 = .ok (.iaload, 1) := by decide +kernel
theorem dX0_sow_70 : decode cX0_sow 70 = .ok (.iadd, 1) := by decide +kernel
theorem dX0_sow_71 : decode cX0_sow 71 = .ok (.istore_n 3, 1) := by decide +kernel
theorem dX0_sow_72 : decode cX0_sow 72 = .ok (.iinc 4 1, 3) := by decide +kernel
theorem dX0_sow_75 : decode cX0_sow 75 = .ok (.goto (-45), 3) := by decide +kernel
theorem dX0_sow_78 : decode cX0_sow 78 = .ok (.iload_n 3, 1) := by decide +kernel
theorem dX0_sow_79 : decode cX0_sow 79 = .ok (.ireturn, 1) := by decide +kernel
theorem dX0_close_0 : decode cX0_close 0 = .ok (.iload_n 1, 1) := by decide +kernel
theorem dX0_close_1 : decode cX0_close 1 = .ok (.invokestatic 32, 3) := by decide +kernel
theorem dX0_close_4 : decode cX0_close 4 = .ok (.ifCond .ne 5, 3) := by decide +kernel
theorem dX0_close_7 : decode cX0_close 7 = .ok (.iconst (-1), 1) := by decide +kernel
theorem dX0_close_8 : decode cX0_close 8 = .ok (.ireturn, 1) := by decide +kernel
theorem dX0_close_9 : decode cX0_close 9 = .ok (.aload_n 0, 1) := by decide +kernel
theorem dX0_close_10 : decode cX0_close 10 = .ok (.getfield 13, 3) := by decide +kernel
theorem dX0_close_13 : decode cX0_close 13 = .ok (.iload_n 1, 1) := by decide +kernel
theorem dX0_close_14 : decode cX0_close 14 = .ok (.baload, 1) := by decide +kernel
theorem dX0_close_15 : decode cX0_close 15 = .ok (.ifCond .eq 7, 3) := by decide +kernel
theorem dX0_close_18 : decode cX0_close 18 = .ok (.iconst 1, 1) := by decide +kernel
theorem dX0_close_19 : decode cX0_close 19 = .ok (.goto 4, 3) := by decide +kernel
theorem dX0_close_22 : decode cX0_close 22 = .ok (.iconst 0, 1) := by decide +kernel
theorem dX0_close_23 : decode cX0_close 23 = .ok (.istore_n 3, 1) := by decide +kernel
theorem dX0_close_24 : decode cX0_close 24 = .ok (.aload_n 0, 1) := by decide +kernel
theorem dX0_close_25 : decode cX0_close 25 = .ok (.getfield 13, 3) := by decide +kernel
theorem dX0_close_28 : decode cX0_close 28 = .ok (.iload_n 1, 1) := by decide +kernel
theorem dX0_close_29 : decode cX0_close 29 = .ok (.iload_n 2, 1) := by decide +kernel
theorem dX0_close_30 : decode cX0_close 30 = .ok (.ifCond .eq 7, 3) := by decide +kernel
theorem dX0_close_33 : decode cX0_close 33 = .ok (.iconst 1, 1) := by decide +kernel
theorem dX0_close_34 : decode cX0_close 34 = .ok (.goto 4, 3) := by decide +kernel
theorem dX0_close_37 : decode cX0_close 37 = .ok (.iconst 0, 1) := by decide +kernel
theorem dX0_close_38 : decode cX0_close 38 = .ok (.bastore, 1) := by decide +kernel
theorem dX0_close_39 : decode cX0_close 39 = .ok (.iload_n 3, 1) := by decide +kernel
theorem dX0_close_40 : decode cX0_close 40 = .ok (.ireturn, 1) := by decide +kernel
theorem dX0_capacity_0 : decode cX0_capacity 0 = .ok (.iload_n 1, 1) := by decide +kernel
theorem dX0_capacity_1 : decode cX0_capacity 1 = .ok (.invokestatic 32, 3) := by decide +kernel
theorem dX0_capacity_4 : decode cX0_capacity 4 = .ok (.ifCond .eq 12, 3) := by decide +kernel
theorem dX0_capacity_7 : decode cX0_capacity 7 = .ok (.aload_n 0, 1) := by decide +kernel
theorem dX0_capacity_8 : decode cX0_capacity 8 = .ok (.getfield 7, 3) := by decide +kernel
theorem dX0_capacity_11 : decode cX0_capacity 11 = .ok (.iload_n 1, 1) := by decide +kernel
theorem dX0_capacity_12 : decode cX0_capacity 12 = .ok (.iaload, 1) := by decide +kernel
theorem dX0_capacity_13 : decode cX0_capacity 13 = .ok (.goto 4, 3) := by decide +kernel
theorem dX0_capacity_16 : decode cX0_capacity 16 = .ok (.iconst (-1), 1) := by decide +kernel
theorem dX0_capacity_17 : decode cX0_capacity 17 = .ok (.ireturn, 1) := by decide +kernel
theorem dX0_between_0 : decode cX0_between 0 = .ok (.iload_n 1, 1) := by decide +kernel
theorem dX0_between_1 : decode cX0_between 1 = .ok (.invokestatic 36, 3) := by decide +kernel
theorem dX0_between_4 : decode cX0_between 4 = .ok (.ifCond .eq 10, 3) := by decide +kernel
theorem dX0_between_7 : decode cX0_between 7 = .ok (.iload_n 2, 1) := by decide +kernel
theorem dX0_between_8 : decode cX0_between 8 = .ok (.invokestatic 36, 3) := by decide +kernel
theorem dX0_between_11 : decode cX0_between 11 = .ok (.ifCond .ne 5, 3) := by decide +kernel
theorem dX0_between_14 : decode cX0_between 14 = .ok (.iconst (-1), 1) := by decide +kernel
theorem dX0_between_15 : decode cX0_between 15 = .ok (.ireturn, 1) := by decide +kernel
theorem dX0_between_16 : decode cX0_between 16 = .ok (.iconst 0, 1) := by decide +kernel
theorem dX0_between_17 : decode cX0_between 17 = .ok (.istore_n 3, 1) := by decide +kernel
theorem dX0_between_18 : decode cX0_between 18 = .ok (.iload_n 3, 1) := by decide +kernel
theorem dX0_between_19 : decode cX0_between 19 = .ok (.bipush 17, 2) := by decide +kernel
theorem dX0_between_21 : decode cX0_between 21 = .ok (.if_icmp .ge 67, 3) := by decide +kernel
theorem dX0_between_24 : decode cX0_between 24 = .ok (.iload_n 3, 1) := by decide +kernel
theorem dX0_between_25 : decode cX0_between 25 = .ok (.invokestatic 39, 3) := by decide +kernel
theorem dX0_between_28 : decode cX0_between 28 = .ok (.iload_n 1, 1) := by decide +kernel
theorem dX0_between_29 : decode cX0_between 29 = .ok (.if_icmp .ne 15, 3) := by decide +kernel
theorem dX0_between_32 : decode cX0_between 32 = .ok (.iload_n 3, 1) := by decide +kernel
theorem dX0_between_33 : decode cX0_between 33 = .ok (.invokestatic 43, 3) := by decide +kernel
theorem dX0_between_36 : decode cX0_between 36 = .ok (.iload_n 2, 1) := by decide +kernel
theorem dX0_between_37 : decode cX0_between 37 = .ok (.if_icmp .ne 7, 3) := by decide +kernel
theorem dX0_between_40 : decode cX0_between 40 = .ok (.iconst 1, 1) := by decide +kernel
theorem dX0_between_41 : decode cX0_between 41 = .ok (.goto 4, 3) := by decide +kernel
theorem dX0_between_44 : decode cX0_between 44 = .ok (.iconst 0, 1) := by decide +kernel
theorem dX0_between_45 : decode cX0_between 45 = .ok (.istore 4, 2) := by decide +kernel
theorem dX0_between_47 : decode cX0_between 47 = .ok (.iload_n 3, 1) := by decide +kernel
theorem dX0_between_48 : decode cX0_between 48 = .ok (.invokestatic 39, 3) := by decide +kernel
theorem dX0_between_51 : decode cX0_between 51 = .ok (.iload_n 2, 1) := by decide +kernel
theorem dX0_between_52 : decode cX0_between 52 = .ok (.if_icmp .ne 15, 3) := by decide +kernel
theorem dX0_between_55 : decode cX0_between 55 = .ok (.iload_n 3, 1) := by decide +kernel
theorem dX0_between_56 : decode cX0_between 56 = .ok (.invokestatic 43, 3) := by decide +kernel
theorem dX0_between_59 : decode cX0_between 59 = .ok (.iload_n 1, 1) := by decide +kernel
theorem dX0_between_60 : decode cX0_between 60 = .ok (.if_icmp .ne 7, 3) := by decide +kernel
theorem dX0_between_63 : decode cX0_between 63 = .ok (.iconst 1, 1) := by decide +kernel
theorem dX0_between_64 : decode cX0_between 64 = .ok (.goto 4, 3) := by decide +kernel
theorem dX0_between_67 : decode cX0_between 67 = .ok (.iconst 0, 1) := by decide +kernel
theorem dX0_between_68 : decode cX0_between 68 = .ok (.istore 5, 2) := by decide +kernel
theorem dX0_between_70 : decode cX0_between 70 = .ok (.iload 4, 2) := by decide +kernel
theorem dX0_between_72 : decode cX0_between 72 = .ok (.ifCond .ne 8, 3) := by decide +kernel
theorem dX0_between_75 : decode cX0_between 75 = .ok (.iload 5, 2) := by decide +kernel
theorem dX0_between_77 : decode cX0_between 77 = .ok (.ifCond .eq 5, 3) := by decide +kernel
theorem dX0_between_80 : decode cX0_between 80 = .ok (.iload_n 3, 1) := by decide +kernel
theorem dX0_between_81 : decode cX0_between 81 = .ok (.ireturn, 1) := by decide +kernel
theorem dX0_between_82 : decode cX0_between 82 = .ok (.iinc 3 1, 3) := by decide +kernel
theorem dX0_between_85 : decode cX0_between 85 = .ok (.goto (-67), 3) := by decide +kernel
theorem dX0_between_88 : decode cX0_between 88 = .ok (.bipush (-2), 2) := by decide +kernel
theorem dX0_between_90 : decode cX0_between 90 = .ok (.ireturn, 1) := by decide +kernel
theorem dX0_isCrossing_0 : decode cX0_isCrossing 0 = .ok (.iload_n 0, 1) := by decide +kernel
theorem dX0_isCrossing_1 : decode cX0_isCrossing 1 = .ok (.ifCond .lt 13, 3) := by decide +kernel
theorem dX0_isCrossing_4 : decode cX0_isCrossing 4 = .ok (.iload_n 0, 1) := by decide +kernel
theorem dX0_isCrossing_5 : decode cX0_isCrossing 5 = .ok (.bipush 12, 2) := by decide +kernel
theorem dX0_isCrossing_7 : decode cX0_isCrossing 7 = .ok (.if_icmp .ge 7, 3) := by decide +kernel
theorem dX0_isCrossing_10 : decode cX0_isCrossing 10 = .ok (.iconst 1, 1) := by decide +kernel
theorem dX0_isCrossing_11 : decode cX0_isCrossing 11 = .ok (.goto 4, 3) := by decide +kernel
theorem dX0_isCrossing_14 : decode cX0_isCrossing 14 = .ok (.iconst 0, 1) := by decide +kernel
theorem dX0_isCrossing_15 : decode cX0_isCrossing 15 = .ok (.ireturn, 1) := by decide +kernel
theorem dX0_firstEnd_0 : decode cX0_firstEnd 0 = .ok (.iload_n 0, 1) := by decide +kernel
theorem dX0_firstEnd_1 : decode cX0_firstEnd 1 = .ok (.bipush 9, 2) := by decide +kernel
theorem dX0_firstEnd_3 : decode cX0_firstEnd 3 = .ok (.if_icmp .ge 15, 3) := by decide +kernel
theorem dX0_firstEnd_6 : decode cX0_firstEnd 6 = .ok (.iconst 4, 1) := by decide +kernel
theorem dX0_firstEnd_7 : decode cX0_firstEnd 7 = .ok (.iload_n 0, 1) := by decide +kernel
theorem dX0_firstEnd_8 : decode cX0_firstEnd 8 = .ok (.iconst 3, 1) := by decide +kernel
theorem dX0_firstEnd_9 : decode cX0_firstEnd 9 = .ok (.idiv, 1) := by decide +kernel
theorem dX0_firstEnd_10 : decode cX0_firstEnd 10 = .ok (.imul, 1) := by decide +kernel
theorem dX0_firstEnd_11 : decode cX0_firstEnd 11 = .ok (.iload_n 0, 1) := by decide +kernel
theorem dX0_firstEnd_12 : decode cX0_firstEnd 12 = .ok (.iconst 3, 1) := by decide +kernel
theorem dX0_firstEnd_13 : decode cX0_firstEnd 13 = .ok (.irem, 1) := by decide +kernel
theorem dX0_firstEnd_14 : decode cX0_firstEnd 14 = .ok (.iadd, 1) := by decide +kernel
theorem dX0_firstEnd_15 : decode cX0_firstEnd 15 = .ok (.goto 7, 3) := by decide +kernel
theorem dX0_firstEnd_18 : decode cX0_firstEnd 18 = .ok (.iload_n 0, 1) := by decide +kernel
theorem dX0_firstEnd_19 : decode cX0_firstEnd 19 = .ok (.bipush 9, 2) := by decide +kernel
theorem dX0_firstEnd_21 : decode cX0_firstEnd 21 = .ok (.isub, 1) := by decide +kernel
theorem dX0_firstEnd_22 : decode cX0_firstEnd 22 = .ok (.ireturn, 1) := by decide +kernel
theorem dX0_secondEnd_0 : decode cX0_secondEnd 0 = .ok (.iload_n 0, 1) := by decide +kernel
theorem dX0_secondEnd_1 : decode cX0_secondEnd 1 = .ok (.bipush 9, 2) := by decide +kernel
theorem dX0_secondEnd_3 : decode cX0_secondEnd 3 = .ok (.if_icmp .ge 17, 3) := by decide +kernel
theorem dX0_secondEnd_6 : decode cX0_secondEnd 6 = .ok (.iconst 4, 1) := by decide +kernel
theorem dX0_secondEnd_7 : decode cX0_secondEnd 7 = .ok (.iload_n 0, 1) := by decide +kernel
theorem dX0_secondEnd_8 : decode cX0_secondEnd 8 = .ok (.iconst 3, 1) := by decide +kernel
theorem dX0_secondEnd_9 : decode cX0_secondEnd 9 = .ok (.idiv, 1) := by decide +kernel
theorem dX0_secondEnd_10 : decode cX0_secondEnd 10 = .ok (.imul, 1) := by decide +kernel
theorem dX0_secondEnd_11 : decode cX0_secondEnd 11 = .ok (.iload_n 0, 1) := by decide +kernel
theorem dX0_secondEnd_12 : decode cX0_secondEnd 12 = .ok (.iconst 3, 1) := by decide +kernel
theorem dX0_secondEnd_13 : decode cX0_secondEnd 13 = .ok (.irem, 1) := by decide +kernel
theorem dX0_secondEnd_14 : decode cX0_secondEnd 14 = .ok (.iadd, 1) := by decide +kernel
theorem dX0_secondEnd_15 : decode cX0_secondEnd 15 = .ok (.iconst 1, 1) := by decide +kernel
theorem dX0_secondEnd_16 : decode cX0_secondEnd 16 = .ok (.iadd, 1) := by decide +kernel
theorem dX0_secondEnd_17 : decode cX0_secondEnd 17 = .ok (.goto 9, 3) := by decide +kernel
theorem dX0_secondEnd_20 : decode cX0_secondEnd 20 = .ok (.iload_n 0, 1) := by decide +kernel
theorem dX0_secondEnd_21 : decode cX0_secondEnd 21 = .ok (.bipush 9, 2) := by decide +kernel
theorem dX0_secondEnd_23 : decode cX0_secondEnd 23 = .ok (.isub, 1) := by decide +kernel
theorem dX0_secondEnd_24 : decode cX0_secondEnd 24 = .ok (.iconst 4, 1) := by decide +kernel
theorem dX0_secondEnd_25 : decode cX0_secondEnd 25 = .ok (.iadd, 1) := by decide +kernel
theorem dX0_secondEnd_26 : decode cX0_secondEnd 26 = .ok (.ireturn, 1) := by decide +kernel
theorem dX0_flow_0 : decode cX0_flow 0 = .ok (.aload_n 0, 1) := by decide +kernel
theorem dX0_flow_1 : decode cX0_flow 1 = .ok (.invokevirtual 46, 3) := by decide +kernel
theorem dX0_flow_4 : decode cX0_flow 4 = .ok (.ireturn, 1) := by decide +kernel
theorem dX0_shortest_0 : decode cX0_shortest 0 = .ok (.iconst 0, 1) := by decide +kernel
theorem dX0_shortest_1 : decode cX0_shortest 1 = .ok (.istore_n 1, 1) := by decide +kernel
theorem dX0_shortest_2 : decode cX0_shortest 2 = .ok (.iload_n 1, 1) := by decide +kernel
theorem dX0_shortest_3 : decode cX0_shortest 3 = .ok (.bipush 8, 2) := by decide +kernel
theorem dX0_shortest_5 : decode cX0_shortest 5 = .ok (.if_icmp .ge 24, 3) := by decide +kernel
theorem dX0_shortest_8 : decode cX0_shortest 8 = .ok (.aload_n 0, 1) := by decide +kernel
theorem dX0_shortest_9 : decode cX0_shortest 9 = .ok (.getfield 20, 3) := by decide +kernel
theorem dX0_shortest_12 : decode cX0_shortest 12 = .ok (.iload_n 1, 1) := by decide +kernel
theorem dX0_shortest_13 : decode cX0_shortest 13 = .ok (.ldc 64, 2) := by decide +kernel
theorem dX0_shortest_15 : decode cX0_shortest 15 = .ok (.iastore, 1) := by decide +kernel
theorem dX0_shortest_16 : decode cX0_shortest 16 = .ok (.aload_n 0, 1) := by decide +kernel
theorem dX0_shortest_17 : decode cX0_shortest 17 = .ok (.getfield 23, 3) := by decide +kernel
theorem dX0_shortest_20 : decode cX0_shortest 20 = .ok (.iload_n 1, 1) := by decide +kernel
theorem dX0_shortest_21 : decode cX0_shortest 21 = .ok (.iconst 0, 1) := by decide +kernel
theorem dX0_shortest_22 : decode cX0_shortest 22 = .ok (.bastore, 1) := by decide +kernel
theorem dX0_shortest_23 : decode cX0_shortest 23 = .ok (.iinc 1 1, 3) := by decide +kernel
theorem dX0_shortest_26 : decode cX0_shortest 26 = .ok (.goto (-24), 3) := by decide +kernel
theorem dX0_shortest_29 : decode cX0_shortest 29 = .ok (.aload_n 0, 1) := by decide +kernel
theorem dX0_shortest_30 : decode cX0_shortest 30 = .ok (.getfield 20, 3) := by decide +kernel
theorem dX0_shortest_33 : decode cX0_shortest 33 = .ok (.bipush 6, 2) := by decide +kernel
theorem dX0_shortest_35 : decode cX0_shortest 35 = .ok (.iconst 0, 1) := by decide +kernel
theorem dX0_shortest_36 : decode cX0_shortest 36 = .ok (.iastore, 1) := by decide +kernel
theorem dX0_shortest_37 : decode cX0_shortest 37 = .ok (.iconst 0, 1) := by decide +kernel
theorem dX0_shortest_38 : decode cX0_shortest 38 = .ok (.istore_n 1, 1) := by decide +kernel
theorem dX0_shortest_39 : decode cX0_shortest 39 = .ok (.iload_n 1, 1) := by decide +kernel
theorem dX0_shortest_40 : decode cX0_shortest 40 = .ok (.bipush 8, 2) := by decide +kernel
theorem dX0_shortest_42 : decode cX0_shortest 42 = .ok (.if_icmp .ge 104, 3) := by decide +kernel
theorem dX0_shortest_45 : decode cX0_shortest 45 = .ok (.iconst (-1), 1) := by decide +kernel
theorem dX0_shortest_46 : decode cX0_shortest 46 = .ok (.istore_n 2, 1) := by decide +kernel
theorem dX0_shortest_47 : decode cX0_shortest 47 = .ok (.iconst 0, 1) := by decide +kernel
theorem dX0_shortest_48 : decode cX0_shortest 48 = .ok (.istore_n 3, 1) := by decide +kernel
theorem dX0_shortest_49 : decode cX0_shortest 49 = .ok (.iload_n 3, 1) := by decide +kernel
theorem dX0_shortest_50 : decode cX0_shortest 50 = .ok (.bipush 8, 2) := by decide +kernel
theorem dX0_shortest_52 : decode cX0_shortest 52 = .ok (.if_icmp .ge 40, 3) := by decide +kernel
theorem dX0_shortest_55 : decode cX0_shortest 55 = .ok (.aload_n 0, 1) := by decide +kernel
theorem dX0_shortest_56 : decode cX0_shortest 56 = .ok (.getfield 23, 3) := by decide +kernel
theorem dX0_shortest_59 : decode cX0_shortest 59 = .ok (.iload_n 3, 1) := by decide +kernel
theorem dX0_shortest_60 : decode cX0_shortest 60 = .ok (.baload, 1) := by decide +kernel
theorem dX0_shortest_61 : decode cX0_shortest 61 = .ok (.ifCond .ne 25, 3) := by decide +kernel
theorem dX0_shortest_64 : decode cX0_shortest 64 = .ok (.iload_n 2, 1) := by decide +kernel
theorem dX0_shortest_65 : decode cX0_shortest 65 = .ok (.iconst (-1), 1) := by decide +kernel
theorem dX0_shortest_66 : decode cX0_shortest 66 = .ok (.if_icmp .eq 18, 3) := by decide +kernel
theorem dX0_shortest_69 : decode cX0_shortest 69 = .ok (.aload_n 0, 1) := by decide +kernel
theorem dX0_shortest_70 : decode cX0_shortest 70 = .ok (.getfield 20, 3) := by decide +kernel
theorem dX0_shortest_73 : decode cX0_shortest 73 = .ok (.iload_n 3, 1) := by decide +kernel
theorem dX0_shortest_74 : decode cX0_shortest 74 = .ok (.iaload, 1) := by decide +kernel
theorem dX0_shortest_75 : decode cX0_shortest 75 = .ok (.aload_n 0, 1) := by decide +kernel
theorem dX0_shortest_76 : decode cX0_shortest 76 = .ok (.getfield 20, 3) := by decide +kernel
theorem dX0_shortest_79 : decode cX0_shortest 79 = .ok (.iload_n 2, 1) := by decide +kernel
theorem dX0_shortest_80 : decode cX0_shortest 80 = .ok (.iaload, 1) := by decide +kernel
theorem dX0_shortest_81 : decode cX0_shortest 81 = .ok (.if_icmp .ge 5, 3) := by decide +kernel
theorem dX0_shortest_84 : decode cX0_shortest 84 = .ok (.iload_n 3, 1) := by decide +kernel
theorem dX0_shortest_85 : decode cX0_shortest 85 = .ok (.istore_n 2, 1) := by decide +kernel
theorem dX0_shortest_86 : decode cX0_shortest 86 = .ok (.iinc 3 1, 3) := by decide +kernel
theorem dX0_shortest_89 : decode cX0_shortest 89 = .ok (.goto (-40), 3) := by decide +kernel
theorem dX0_shortest_92 : decode cX0_shortest 92 = .ok (.aload_n 0, 1) := by decide +kernel
theorem dX0_shortest_93 : decode cX0_shortest 93 = .ok (.getfield 23, 3) := by decide +kernel
theorem dX0_shortest_96 : decode cX0_shortest 96 = .ok (.iload_n 2, 1) := by decide +kernel
theorem dX0_shortest_97 : decode cX0_shortest 97 = .ok (.iconst 1, 1) := by decide +kernel
theorem dX0_shortest_98 : decode cX0_shortest 98 = .ok (.bastore, 1) := by decide +kernel
theorem dX0_shortest_99 : decode cX0_shortest 99 = .ok (.iload_n 2, 1) := by decide +kernel
theorem dX0_shortest_100 : decode cX0_shortest 100 = .ok (.bipush 7, 2) := by decide +kernel
theorem dX0_shortest_102 : decode cX0_shortest 102 = .ok (.if_icmp .ne 6, 3) := by decide +kernel
theorem dX0_shortest_105 : decode cX0_shortest 105 = .ok (.goto 41, 3) := by decide +kernel
theorem dX0_shortest_108 : decode cX0_shortest 108 = .ok (.iconst 0, 1) := by decide +kernel
theorem dX0_shortest_109 : decode cX0_shortest 109 = .ok (.istore_n 3, 1) := by decide +kernel
theorem dX0_shortest_110 : decode cX0_shortest 110 = .ok (.iload_n 3, 1) := by decide +kernel
theorem dX0_shortest_111 : decode cX0_shortest 111 = .ok (.bipush 17, 2) := by decide +kernel
theorem dX0_shortest_113 : decode cX0_shortest 113 = .ok (.if_icmp .ge 27, 3) := by decide +kernel
theorem dX0_shortest_116 : decode cX0_shortest 116 = .ok (.aload_n 0, 1) := by decide +kernel
theorem dX0_shortest_117 : decode cX0_shortest 117 = .ok (.iload_n 2, 1) := by decide +kernel
theorem dX0_shortest_118 : decode cX0_shortest 118 = .ok (.iload_n 3, 1) := by decide +kernel
theorem dX0_shortest_119 : decode cX0_shortest 119 = .ok (.invokestatic 65, 3) := by decide +kernel
theorem dX0_shortest_122 : decode cX0_shortest 122 = .ok (.iload_n 3, 1) := by decide +kernel
theorem dX0_shortest_123 : decode cX0_shortest 123 = .ok (.invokestatic 68, 3) := by decide +kernel
theorem dX0_shortest_126 : decode cX0_shortest 126 = .ok (.aload_n 0, 1) := by decide +kernel
theorem dX0_shortest_127 : decode cX0_shortest 127 = .ok (.iload_n 3, 1) := by decide +kernel
theorem dX0_shortest_128 : decode cX0_shortest 128 = .ok (.invokevirtual 50, 3) := by decide +kernel
theorem dX0_shortest_131 : decode cX0_shortest 131 = .ok (.invokevirtual 71, 3) := by decide +kernel
theorem dX0_shortest_134 : decode cX0_shortest 134 = .ok (.iinc 3 1, 3) := by decide +kernel
theorem dX0_shortest_137 : decode cX0_shortest 137 = .ok (.goto (-27), 3) := by decide +kernel
theorem dX0_shortest_140 : decode cX0_shortest 140 = .ok (.iinc 1 1, 3) := by decide +kernel
theorem dX0_shortest_143 : decode cX0_shortest 143 = .ok (.goto (-104), 3) := by decide +kernel
theorem dX0_shortest_146 : decode cX0_shortest 146 = .ok (.aload_n 0, 1) := by decide +kernel
theorem dX0_shortest_147 : decode cX0_shortest 147 = .ok (.getfield 20, 3) := by decide +kernel
theorem dX0_shortest_150 : decode cX0_shortest 150 = .ok (.bipush 7, 2) := by decide +kernel
theorem dX0_shortest_152 : decode cX0_shortest 152 = .ok (.iaload, 1) := by decide +kernel
theorem dX0_shortest_153 : decode cX0_shortest 153 = .ok (.ireturn, 1) := by decide +kernel
theorem dX0_firstPlace_0 : decode cX0_firstPlace 0 = .ok (.iload_n 0, 1) := by decide +kernel
theorem dX0_firstPlace_1 : decode cX0_firstPlace 1 = .ok (.bipush 9, 2) := by decide +kernel
theorem dX0_firstPlace_3 : decode cX0_firstPlace 3 = .ok (.if_icmp .ge 17, 3) := by decide +kernel
theorem dX0_firstPlace_6 : decode cX0_firstPlace 6 = .ok (.iload_n 0, 1) := by decide +kernel
theorem dX0_firstPlace_7 : decode cX0_firstPlace 7 = .ok (.iconst 3, 1) := by decide +kernel
theorem dX0_firstPlace_8 : decode cX0_firstPlace 8 = .ok (.if_icmp .ge 8, 3) := by decide +kernel
theorem dX0_firstPlace_11 : decode cX0_firstPlace 11 = .ok (.bipush 6, 2) := by decide +kernel
theorem dX0_firstPlace_13 : decode cX0_firstPlace 13 = .ok (.goto 6, 3) := by decide +kernel
theorem dX0_firstPlace_16 : decode cX0_firstPlace 16 = .ok (.iload_n 0, 1) := by decide +kernel
theorem dX0_firstPlace_17 : decode cX0_firstPlace 17 = .ok (.iconst 3, 1) := by decide +kernel
theorem dX0_firstPlace_18 : decode cX0_firstPlace 18 = .ok (.isub, 1) := by decide +kernel
theorem dX0_firstPlace_19 : decode cX0_firstPlace 19 = .ok (.ireturn, 1) := by decide +kernel
end
section
set_option maxRecDepth 100000
theorem dX0_firstPlace_20 : decode cX0_firstPlace 20 = .ok (.iload_n 0, 1) := by decide +kernel
theorem dX0_firstPlace_21 : decode cX0_firstPlace 21 = .ok (.bipush 9, 2) := by decide +kernel
theorem dX0_firstPlace_23 : decode cX0_firstPlace 23 = .ok (.isub, 1) := by decide +kernel
theorem dX0_firstPlace_24 : decode cX0_firstPlace 24 = .ok (.iconst 4, 1) := by decide +kernel
theorem dX0_firstPlace_25 : decode cX0_firstPlace 25 = .ok (.idiv, 1) := by decide +kernel
theorem dX0_firstPlace_26 : decode cX0_firstPlace 26 = .ok (.istore_n 1, 1) := by decide +kernel
theorem dX0_firstPlace_27 : decode cX0_firstPlace 27 = .ok (.iload_n 0, 1) := by decide +kernel
theorem dX0_firstPlace_28 : decode cX0_firstPlace 28 = .ok (.bipush 9, 2) := by decide +kernel
theorem dX0_firstPlace_30 : decode cX0_firstPlace 30 = .ok (.isub, 1) := by decide +kernel
theorem dX0_firstPlace_31 : decode cX0_firstPlace 31 = .ok (.iconst 4, 1) := by decide +kernel
theorem dX0_firstPlace_32 : decode cX0_firstPlace 32 = .ok (.irem, 1) := by decide +kernel
theorem dX0_firstPlace_33 : decode cX0_firstPlace 33 = .ok (.istore_n 2, 1) := by decide +kernel
theorem dX0_firstPlace_34 : decode cX0_firstPlace 34 = .ok (.iload_n 2, 1) := by decide +kernel
theorem dX0_firstPlace_35 : decode cX0_firstPlace 35 = .ok (.ifCond .ne 8, 3) := by decide +kernel
theorem dX0_firstPlace_38 : decode cX0_firstPlace 38 = .ok (.bipush 7, 2) := by decide +kernel
theorem dX0_firstPlace_40 : decode cX0_firstPlace 40 = .ok (.goto 10, 3) := by decide +kernel
theorem dX0_firstPlace_43 : decode cX0_firstPlace 43 = .ok (.iconst 3, 1) := by decide +kernel
theorem dX0_firstPlace_44 : decode cX0_firstPlace 44 = .ok (.iload_n 1, 1) := by decide +kernel
theorem dX0_firstPlace_45 : decode cX0_firstPlace 45 = .ok (.imul, 1) := by decide +kernel
theorem dX0_firstPlace_46 : decode cX0_firstPlace 46 = .ok (.iload_n 2, 1) := by decide +kernel
theorem dX0_firstPlace_47 : decode cX0_firstPlace 47 = .ok (.iadd, 1) := by decide +kernel
theorem dX0_firstPlace_48 : decode cX0_firstPlace 48 = .ok (.iconst 1, 1) := by decide +kernel
theorem dX0_firstPlace_49 : decode cX0_firstPlace 49 = .ok (.isub, 1) := by decide +kernel
theorem dX0_firstPlace_50 : decode cX0_firstPlace 50 = .ok (.ireturn, 1) := by decide +kernel
theorem dX0_secondPlace_0 : decode cX0_secondPlace 0 = .ok (.iload_n 0, 1) := by decide +kernel
theorem dX0_secondPlace_1 : decode cX0_secondPlace 1 = .ok (.bipush 9, 2) := by decide +kernel
theorem dX0_secondPlace_3 : decode cX0_secondPlace 3 = .ok (.if_icmp .ge 15, 3) := by decide +kernel
theorem dX0_secondPlace_6 : decode cX0_secondPlace 6 = .ok (.iload_n 0, 1) := by decide +kernel
theorem dX0_secondPlace_7 : decode cX0_secondPlace 7 = .ok (.iconst 5, 1) := by decide +kernel
theorem dX0_secondPlace_8 : decode cX0_secondPlace 8 = .ok (.if_icmp .le 8, 3) := by decide +kernel
theorem dX0_secondPlace_11 : decode cX0_secondPlace 11 = .ok (.bipush 7, 2) := by decide +kernel
theorem dX0_secondPlace_13 : decode cX0_secondPlace 13 = .ok (.goto 4, 3) := by decide +kernel
theorem dX0_secondPlace_16 : decode cX0_secondPlace 16 = .ok (.iload_n 0, 1) := by decide +kernel
theorem dX0_secondPlace_17 : decode cX0_secondPlace 17 = .ok (.ireturn, 1) := by decide +kernel
theorem dX0_secondPlace_18 : decode cX0_secondPlace 18 = .ok (.iload_n 0, 1) := by decide +kernel
theorem dX0_secondPlace_19 : decode cX0_secondPlace 19 = .ok (.bipush 9, 2) := by decide +kernel
theorem dX0_secondPlace_21 : decode cX0_secondPlace 21 = .ok (.isub, 1) := by decide +kernel
theorem dX0_secondPlace_22 : decode cX0_secondPlace 22 = .ok (.iconst 4, 1) := by decide +kernel
theorem dX0_secondPlace_23 : decode cX0_secondPlace 23 = .ok (.idiv, 1) := by decide +kernel
theorem dX0_secondPlace_24 : decode cX0_secondPlace 24 = .ok (.istore_n 1, 1) := by decide +kernel
theorem dX0_secondPlace_25 : decode cX0_secondPlace 25 = .ok (.iload_n 0, 1) := by decide +kernel
theorem dX0_secondPlace_26 : decode cX0_secondPlace 26 = .ok (.bipush 9, 2) := by decide +kernel
theorem dX0_secondPlace_28 : decode cX0_secondPlace 28 = .ok (.isub, 1) := by decide +kernel
theorem dX0_secondPlace_29 : decode cX0_secondPlace 29 = .ok (.iconst 4, 1) := by decide +kernel
theorem dX0_secondPlace_30 : decode cX0_secondPlace 30 = .ok (.irem, 1) := by decide +kernel
theorem dX0_secondPlace_31 : decode cX0_secondPlace 31 = .ok (.istore_n 2, 1) := by decide +kernel
theorem dX0_secondPlace_32 : decode cX0_secondPlace 32 = .ok (.iload_n 2, 1) := by decide +kernel
theorem dX0_secondPlace_33 : decode cX0_secondPlace 33 = .ok (.iconst 3, 1) := by decide +kernel
theorem dX0_secondPlace_34 : decode cX0_secondPlace 34 = .ok (.if_icmp .ne 8, 3) := by decide +kernel
theorem dX0_secondPlace_37 : decode cX0_secondPlace 37 = .ok (.bipush 6, 2) := by decide +kernel
theorem dX0_secondPlace_39 : decode cX0_secondPlace 39 = .ok (.goto 8, 3) := by decide +kernel
theorem dX0_secondPlace_42 : decode cX0_secondPlace 42 = .ok (.iconst 3, 1) := by decide +kernel
theorem dX0_secondPlace_43 : decode cX0_secondPlace 43 = .ok (.iload_n 1, 1) := by decide +kernel
theorem dX0_secondPlace_44 : decode cX0_secondPlace 44 = .ok (.imul, 1) := by decide +kernel
theorem dX0_secondPlace_45 : decode cX0_secondPlace 45 = .ok (.iload_n 2, 1) := by decide +kernel
theorem dX0_secondPlace_46 : decode cX0_secondPlace 46 = .ok (.iadd, 1) := by decide +kernel
theorem dX0_secondPlace_47 : decode cX0_secondPlace 47 = .ok (.ireturn, 1) := by decide +kernel
theorem dX0_room_0 : decode cX0_room 0 = .ok (.aload_n 0, 1) := by decide +kernel
theorem dX0_room_1 : decode cX0_room 1 = .ok (.getfield 13, 3) := by decide +kernel
theorem dX0_room_4 : decode cX0_room 4 = .ok (.iload_n 1, 1) := by decide +kernel
theorem dX0_room_5 : decode cX0_room 5 = .ok (.baload, 1) := by decide +kernel
theorem dX0_room_6 : decode cX0_room 6 = .ok (.ifCond .eq 7, 3) := by decide +kernel
theorem dX0_room_9 : decode cX0_room 9 = .ok (.iconst 0, 1) := by decide +kernel
theorem dX0_room_10 : decode cX0_room 10 = .ok (.goto 9, 3) := by decide +kernel
theorem dX0_room_13 : decode cX0_room 13 = .ok (.aload_n 0, 1) := by decide +kernel
theorem dX0_room_14 : decode cX0_room 14 = .ok (.getfield 7, 3) := by decide +kernel
theorem dX0_room_17 : decode cX0_room 17 = .ok (.iload_n 1, 1) := by decide +kernel
theorem dX0_room_18 : decode cX0_room 18 = .ok (.iaload, 1) := by decide +kernel
theorem dX0_room_19 : decode cX0_room 19 = .ok (.ireturn, 1) := by decide +kernel
theorem dX0_relax_0 : decode cX0_relax 0 = .ok (.iload_n 1, 1) := by decide +kernel
theorem dX0_relax_1 : decode cX0_relax 1 = .ok (.iload_n 2, 1) := by decide +kernel
theorem dX0_relax_2 : decode cX0_relax 2 = .ok (.if_icmp .ne 7, 3) := by decide +kernel
theorem dX0_relax_5 : decode cX0_relax 5 = .ok (.iload_n 3, 1) := by decide +kernel
theorem dX0_relax_6 : decode cX0_relax 6 = .ok (.goto 4, 3) := by decide +kernel
theorem dX0_relax_9 : decode cX0_relax 9 = .ok (.iload_n 2, 1) := by decide +kernel
theorem dX0_relax_10 : decode cX0_relax 10 = .ok (.istore 5, 2) := by decide +kernel
theorem dX0_relax_12 : decode cX0_relax 12 = .ok (.iload_n 1, 1) := by decide +kernel
theorem dX0_relax_13 : decode cX0_relax 13 = .ok (.iload_n 2, 1) := by decide +kernel
theorem dX0_relax_14 : decode cX0_relax 14 = .ok (.if_icmp .eq 8, 3) := by decide +kernel
theorem dX0_relax_17 : decode cX0_relax 17 = .ok (.iload_n 1, 1) := by decide +kernel
theorem dX0_relax_18 : decode cX0_relax 18 = .ok (.iload_n 3, 1) := by decide +kernel
theorem dX0_relax_19 : decode cX0_relax 19 = .ok (.if_icmp .ne 7, 3) := by decide +kernel
theorem dX0_relax_22 : decode cX0_relax 22 = .ok (.iconst 1, 1) := by decide +kernel
theorem dX0_relax_23 : decode cX0_relax 23 = .ok (.goto 4, 3) := by decide +kernel
theorem dX0_relax_26 : decode cX0_relax 26 = .ok (.iconst 0, 1) := by decide +kernel
theorem dX0_relax_27 : decode cX0_relax 27 = .ok (.istore 6, 2) := by decide +kernel
theorem dX0_relax_29 : decode cX0_relax 29 = .ok (.iload 6, 2) := by decide +kernel
theorem dX0_relax_31 : decode cX0_relax 31 = .ok (.ifCond .eq 38, 3) := by decide +kernel
theorem dX0_relax_34 : decode cX0_relax 34 = .ok (.aload_n 0, 1) := by decide +kernel
theorem dX0_relax_35 : decode cX0_relax 35 = .ok (.getfield 20, 3) := by decide +kernel
theorem dX0_relax_38 : decode cX0_relax 38 = .ok (.iload_n 1, 1) := by decide +kernel
theorem dX0_relax_39 : decode cX0_relax 39 = .ok (.iaload, 1) := by decide +kernel
theorem dX0_relax_40 : decode cX0_relax 40 = .ok (.iload 4, 2) := by decide +kernel
theorem dX0_relax_42 : decode cX0_relax 42 = .ok (.iadd, 1) := by decide +kernel
theorem dX0_relax_43 : decode cX0_relax 43 = .ok (.aload_n 0, 1) := by decide +kernel
theorem dX0_relax_44 : decode cX0_relax 44 = .ok (.getfield 20, 3) := by decide +kernel
theorem dX0_relax_47 : decode cX0_relax 47 = .ok (.iload 5, 2) := by decide +kernel
theorem dX0_relax_49 : decode cX0_relax 49 = .ok (.iaload, 1) := by decide +kernel
theorem dX0_relax_50 : decode cX0_relax 50 = .ok (.if_icmp .ge 19, 3) := by decide +kernel
theorem dX0_relax_53 : decode cX0_relax 53 = .ok (.aload_n 0, 1) := by decide +kernel
theorem dX0_relax_54 : decode cX0_relax 54 = .ok (.getfield 20, 3) := by decide +kernel
theorem dX0_relax_57 : decode cX0_relax 57 = .ok (.iload 5, 2) := by decide +kernel
theorem dX0_relax_59 : decode cX0_relax 59 = .ok (.aload_n 0, 1) := by decide +kernel
theorem dX0_relax_60 : decode cX0_relax 60 = .ok (.getfield 20, 3) := by decide +kernel
theorem dX0_relax_63 : decode cX0_relax 63 = .ok (.iload_n 1, 1) := by decide +kernel
theorem dX0_relax_64 : decode cX0_relax 64 = .ok (.iaload, 1) := by decide +kernel
theorem dX0_relax_65 : decode cX0_relax 65 = .ok (.iload 4, 2) := by decide +kernel
theorem dX0_relax_67 : decode cX0_relax 67 = .ok (.iadd, 1) := by decide +kernel
theorem dX0_relax_68 : decode cX0_relax 68 = .ok (.iastore, 1) := by decide +kernel
theorem dX0_relax_69 : decode cX0_relax 69 = .ok (.return_, 1) := by decide +kernel
theorem dX0_weight_0 : decode cX0_weight 0 = .ok (.iload_n 1, 1) := by decide +kernel
theorem dX0_weight_1 : decode cX0_weight 1 = .ok (.ifCond .lt 10, 3) := by decide +kernel
theorem dX0_weight_4 : decode cX0_weight 4 = .ok (.iload_n 1, 1) := by decide +kernel
theorem dX0_weight_5 : decode cX0_weight 5 = .ok (.sipush 4095, 3) := by decide +kernel
theorem dX0_weight_8 : decode cX0_weight 8 = .ok (.if_icmp .le 5, 3) := by decide +kernel
theorem dX0_weight_11 : decode cX0_weight 11 = .ok (.iconst (-1), 1) := by decide +kernel
theorem dX0_weight_12 : decode cX0_weight 12 = .ok (.ireturn, 1) := by decide +kernel
theorem dX0_weight_13 : decode cX0_weight 13 = .ok (.iload_n 1, 1) := by decide +kernel
theorem dX0_weight_14 : decode cX0_weight 14 = .ok (.iconst 1, 1) := by decide +kernel
theorem dX0_weight_15 : decode cX0_weight 15 = .ok (.iand, 1) := by decide +kernel
theorem dX0_weight_16 : decode cX0_weight 16 = .ok (.ifCond .ne 6, 3) := by decide +kernel
theorem dX0_weight_19 : decode cX0_weight 19 = .ok (.bipush (-2), 2) := by decide +kernel
theorem dX0_weight_21 : decode cX0_weight 21 = .ok (.ireturn, 1) := by decide +kernel
theorem dX0_weight_22 : decode cX0_weight 22 = .ok (.iload_n 1, 1) := by decide +kernel
theorem dX0_weight_23 : decode cX0_weight 23 = .ok (.bipush 11, 2) := by decide +kernel
theorem dX0_weight_25 : decode cX0_weight 25 = .ok (.ishr, 1) := by decide +kernel
theorem dX0_weight_26 : decode cX0_weight 26 = .ok (.iconst 1, 1) := by decide +kernel
theorem dX0_weight_27 : decode cX0_weight 27 = .ok (.iand, 1) := by decide +kernel
theorem dX0_weight_28 : decode cX0_weight 28 = .ok (.iconst 1, 1) := by decide +kernel
theorem dX0_weight_29 : decode cX0_weight 29 = .ok (.if_icmp .ne 6, 3) := by decide +kernel
theorem dX0_weight_32 : decode cX0_weight 32 = .ok (.bipush (-3), 2) := by decide +kernel
theorem dX0_weight_34 : decode cX0_weight 34 = .ok (.ireturn, 1) := by decide +kernel
theorem dX0_weight_35 : decode cX0_weight 35 = .ok (.iconst 0, 1) := by decide +kernel
theorem dX0_weight_36 : decode cX0_weight 36 = .ok (.istore_n 2, 1) := by decide +kernel
theorem dX0_weight_37 : decode cX0_weight 37 = .ok (.iconst 0, 1) := by decide +kernel
theorem dX0_weight_38 : decode cX0_weight 38 = .ok (.istore_n 3, 1) := by decide +kernel
theorem dX0_weight_39 : decode cX0_weight 39 = .ok (.iload_n 3, 1) := by decide +kernel
theorem dX0_weight_40 : decode cX0_weight 40 = .ok (.bipush 17, 2) := by decide +kernel
theorem dX0_weight_42 : decode cX0_weight 42 = .ok (.if_icmp .ge 44, 3) := by decide +kernel
theorem dX0_weight_45 : decode cX0_weight 45 = .ok (.iload_n 1, 1) := by decide +kernel
theorem dX0_weight_46 : decode cX0_weight 46 = .ok (.iload_n 3, 1) := by decide +kernel
theorem dX0_weight_47 : decode cX0_weight 47 = .ok (.invokestatic 39, 3) := by decide +kernel
theorem dX0_weight_50 : decode cX0_weight 50 = .ok (.ishr, 1) := by decide +kernel
theorem dX0_weight_51 : decode cX0_weight 51 = .ok (.iload_n 1, 1) := by decide +kernel
theorem dX0_weight_52 : decode cX0_weight 52 = .ok (.iload_n 3, 1) := by decide +kernel
theorem dX0_weight_53 : decode cX0_weight 53 = .ok (.invokestatic 43, 3) := by decide +kernel
theorem dX0_weight_56 : decode cX0_weight 56 = .ok (.ishr, 1) := by decide +kernel
theorem dX0_weight_57 : decode cX0_weight 57 = .ok (.ixor, 1) := by decide +kernel
theorem dX0_weight_58 : decode cX0_weight 58 = .ok (.istore 4, 2) := by decide +kernel
theorem dX0_weight_60 : decode cX0_weight 60 = .ok (.iload_n 2, 1) := by decide +kernel
theorem dX0_weight_61 : decode cX0_weight 61 = .ok (.iload 4, 2) := by decide +kernel
theorem dX0_weight_63 : decode cX0_weight 63 = .ok (.iconst 1, 1) := by decide +kernel
theorem dX0_weight_64 : decode cX0_weight 64 = .ok (.iand, 1) := by decide +kernel
theorem dX0_weight_65 : decode cX0_weight 65 = .ok (.iconst 1, 1) := by decide +kernel
theorem dX0_weight_66 : decode cX0_weight 66 = .ok (.if_icmp .ne 11, 3) := by decide +kernel
theorem dX0_weight_69 : decode cX0_weight 69 = .ok (.aload_n 0, 1) := by decide +kernel
theorem dX0_weight_70 : decode cX0_weight 70 = .ok (.iload_n 3, 1) := by decide +kernel
theorem dX0_weight_71 : decode cX0_weight 71 = .ok (.invokevirtual 50, 3) := by decide +kernel
theorem dX0_weight_74 : decode cX0_weight 74 = .ok (.goto 4, 3) := by decide +kernel
theorem dX0_weight_77 : decode cX0_weight 77 = .ok (.iconst 0, 1) := by decide +kernel
theorem dX0_weight_78 : decode cX0_weight 78 = .ok (.iadd, 1) := by decide +kernel
theorem dX0_weight_79 : decode cX0_weight 79 = .ok (.istore_n 2, 1) := by decide +kernel
theorem dX0_weight_80 : decode cX0_weight 80 = .ok (.iinc 3 1, 3) := by decide +kernel
theorem dX0_weight_83 : decode cX0_weight 83 = .ok (.goto (-44), 3) := by decide +kernel
theorem dX0_weight_86 : decode cX0_weight 86 = .ok (.iload_n 2, 1) := by decide +kernel
theorem dX0_weight_87 : decode cX0_weight 87 = .ok (.ireturn, 1) := by decide +kernel
theorem dX0_firstCut_0 : decode cX0_firstCut 0 = .ok (.aload_n 0, 1) := by decide +kernel
theorem dX0_firstCut_1 : decode cX0_firstCut 1 = .ok (.iconst 1, 1) := by decide +kernel
theorem dX0_firstCut_2 : decode cX0_firstCut 2 = .ok (.sipush 2048, 3) := by decide +kernel
theorem dX0_firstCut_5 : decode cX0_firstCut 5 = .ok (.invokevirtual 53, 3) := by decide +kernel
theorem dX0_firstCut_8 : decode cX0_firstCut 8 = .ok (.pop, 1) := by decide +kernel
theorem dX0_firstCut_9 : decode cX0_firstCut 9 = .ok (.aload_n 0, 1) := by decide +kernel
theorem dX0_firstCut_10 : decode cX0_firstCut 10 = .ok (.iconst 1, 1) := by decide +kernel
theorem dX0_firstCut_11 : decode cX0_firstCut 11 = .ok (.iconst 1, 1) := by decide +kernel
theorem dX0_firstCut_12 : decode cX0_firstCut 12 = .ok (.invokevirtual 57, 3) := by decide +kernel
theorem dX0_firstCut_15 : decode cX0_firstCut 15 = .ok (.ireturn, 1) := by decide +kernel
theorem dX0_fill_0 : decode cX0_fill 0 = .ok (.iconst 0, 1) := by decide +kernel
theorem dX0_fill_1 : decode cX0_fill 1 = .ok (.istore_n 3, 1) := by decide +kernel
theorem dX0_fill_2 : decode cX0_fill 2 = .ok (.iload_n 3, 1) := by decide +kernel
theorem dX0_fill_3 : decode cX0_fill 3 = .ok (.bipush 17, 2) := by decide +kernel
theorem dX0_fill_5 : decode cX0_fill 5 = .ok (.if_icmp .ge 16, 3) := by decide +kernel
theorem dX0_fill_8 : decode cX0_fill 8 = .ok (.aload_n 0, 1) := by decide +kernel
theorem dX0_fill_9 : decode cX0_fill 9 = .ok (.getfield 17, 3) := by decide +kernel
theorem dX0_fill_12 : decode cX0_fill 12 = .ok (.iload_n 3, 1) := by decide +kernel
theorem dX0_fill_13 : decode cX0_fill 13 = .ok (.iconst 0, 1) := by decide +kernel
theorem dX0_fill_14 : decode cX0_fill 14 = .ok (.iastore, 1) := by decide +kernel
theorem dX0_fill_15 : decode cX0_fill 15 = .ok (.iinc 3 1, 3) := by decide +kernel
theorem dX0_fill_18 : decode cX0_fill 18 = .ok (.goto (-16), 3) := by decide +kernel
theorem dX0_fill_21 : decode cX0_fill 21 = .ok (.iconst 0, 1) := by decide +kernel
theorem dX0_fill_22 : decode cX0_fill 22 = .ok (.istore_n 3, 1) := by decide +kernel
theorem dX0_fill_23 : decode cX0_fill 23 = .ok (.iconst 0, 1) := by decide +kernel
theorem dX0_fill_24 : decode cX0_fill 24 = .ok (.istore 4, 2) := by decide +kernel
theorem dX0_fill_26 : decode cX0_fill 26 = .ok (.iload 4, 2) := by decide +kernel
theorem dX0_fill_28 : decode cX0_fill 28 = .ok (.sipush 341, 3) := by decide +kernel
theorem dX0_fill_31 : decode cX0_fill 31 = .ok (.if_icmp .ge 36, 3) := by decide +kernel
theorem dX0_fill_34 : decode cX0_fill 34 = .ok (.aload_n 0, 1) := by decide +kernel
theorem dX0_fill_35 : decode cX0_fill 35 = .ok (.iload_n 1, 1) := by decide +kernel
theorem dX0_fill_36 : decode cX0_fill 36 = .ok (.iload_n 2, 1) := by decide +kernel
theorem dX0_fill_37 : decode cX0_fill 37 = .ok (.invokevirtual 75, 3) := by decide +kernel
theorem dX0_fill_40 : decode cX0_fill 40 = .ok (.istore 5, 2) := by decide +kernel
theorem dX0_fill_42 : decode cX0_fill 42 = .ok (.iload 5, 2) := by decide +kernel
theorem dX0_fill_44 : decode cX0_fill 44 = .ok (.iconst (-1), 1) := by decide +kernel
theorem dX0_fill_45 : decode cX0_fill 45 = .ok (.if_icmp .ne 6, 3) := by decide +kernel
theorem dX0_fill_48 : decode cX0_fill 48 = .ok (.goto 19, 3) := by decide +kernel
theorem dX0_fill_51 : decode cX0_fill 51 = .ok (.iload_n 3, 1) := by decide +kernel
theorem dX0_fill_52 : decode cX0_fill 52 = .ok (.aload_n 0, 1) := by decide +kernel
theorem dX0_fill_53 : decode cX0_fill 53 = .ok (.iload 5, 2) := by decide +kernel
theorem dX0_fill_55 : decode cX0_fill 55 = .ok (.iload_n 1, 1) := by decide +kernel
theorem dX0_fill_56 : decode cX0_fill 56 = .ok (.invokevirtual 78, 3) := by decide +kernel
theorem dX0_fill_59 : decode cX0_fill 59 = .ok (.iadd, 1) := by decide +kernel
theorem dX0_fill_60 : decode cX0_fill 60 = .ok (.istore_n 3, 1) := by decide +kernel
theorem dX0_fill_61 : decode cX0_fill 61 = .ok (.iinc 4 1, 3) := by decide +kernel
theorem dX0_fill_64 : decode cX0_fill 64 = .ok (.goto (-38), 3) := by decide +kernel
theorem dX0_fill_67 : decode cX0_fill 67 = .ok (.iload_n 3, 1) := by decide +kernel
theorem dX0_fill_68 : decode cX0_fill 68 = .ok (.ireturn, 1) := by decide +kernel
theorem dX0_search_0 : decode cX0_search 0 = .ok (.iconst 0, 1) := by decide +kernel
theorem dX0_search_1 : decode cX0_search 1 = .ok (.istore_n 3, 1) := by decide +kernel
theorem dX0_search_2 : decode cX0_search 2 = .ok (.iload_n 1, 1) := by decide +kernel
theorem dX0_search_3 : decode cX0_search 3 = .ok (.istore 4, 2) := by decide +kernel
theorem dX0_search_5 : decode cX0_search 5 = .ok (.iconst 0, 1) := by decide +kernel
theorem dX0_search_6 : decode cX0_search 6 = .ok (.istore 5, 2) := by decide +kernel
theorem dX0_search_8 : decode cX0_search 8 = .ok (.iload 5, 2) := by decide +kernel
theorem dX0_search_10 : decode cX0_search 10 = .ok (.bipush 12, 2) := by decide +kernel
theorem dX0_search_12 : decode cX0_search 12 = .ok (.if_icmp .ge 38, 3) := by decide +kernel
theorem dX0_search_15 : decode cX0_search 15 = .ok (.aload_n 0, 1) := by decide +kernel
theorem dX0_search_16 : decode cX0_search 16 = .ok (.getfield 26, 3) := by decide +kernel
theorem dX0_search_19 : decode cX0_search 19 = .ok (.iload 5, 2) := by decide +kernel
theorem dX0_search_21 : decode cX0_search 21 = .ok (.iconst (-1), 1) := by decide +kernel
theorem dX0_search_22 : decode cX0_search 22 = .ok (.iastore, 1) := by decide +kernel
theorem dX0_search_23 : decode cX0_search 23 = .ok (.iload_n 1, 1) := by decide +kernel
theorem dX0_search_24 : decode cX0_search 24 = .ok (.iload 5, 2) := by decide +kernel
theorem dX0_search_26 : decode cX0_search 26 = .ok (.ishr, 1) := by decide +kernel
theorem dX0_search_27 : decode cX0_search 27 = .ok (.iconst 1, 1) := by decide +kernel
theorem dX0_search_28 : decode cX0_search 28 = .ok (.iand, 1) := by decide +kernel
theorem dX0_search_29 : decode cX0_search 29 = .ok (.iconst 1, 1) := by decide +kernel
theorem dX0_search_30 : decode cX0_search 30 = .ok (.if_icmp .ne 14, 3) := by decide +kernel
theorem dX0_search_33 : decode cX0_search 33 = .ok (.aload_n 0, 1) := by decide +kernel
theorem dX0_search_34 : decode cX0_search 34 = .ok (.getfield 29, 3) := by decide +kernel
theorem dX0_search_37 : decode cX0_search 37 = .ok (.iload_n 3, 1) := by decide +kernel
theorem dX0_search_38 : decode cX0_search 38 = .ok (.iload 5, 2) := by decide +kernel
theorem dX0_search_40 : decode cX0_search 40 = .ok (.iastore, 1) := by decide +kernel
theorem dX0_search_41 : decode cX0_search 41 = .ok (.iinc 3 1, 3) := by decide +kernel
theorem dX0_search_44 : decode cX0_search 44 = .ok (.iinc 5 1, 3) := by decide +kernel
theorem dX0_search_47 : decode cX0_search 47 = .ok (.goto (-39), 3) := by decide +kernel
theorem dX0_search_50 : decode cX0_search 50 = .ok (.iconst 0, 1) := by decide +kernel
theorem dX0_search_51 : decode cX0_search 51 = .ok (.istore 5, 2) := by decide +kernel
theorem dX0_search_53 : decode cX0_search 53 = .ok (.iload 5, 2) := by decide +kernel
theorem dX0_search_55 : decode cX0_search 55 = .ok (.bipush 12, 2) := by decide +kernel
theorem dX0_search_57 : decode cX0_search 57 = .ok (.if_icmp .ge 118, 3) := by decide +kernel
theorem dX0_search_60 : decode cX0_search 60 = .ok (.iload 5, 2) := by decide +kernel
theorem dX0_search_62 : decode cX0_search 62 = .ok (.iload_n 3, 1) := by decide +kernel
theorem dX0_search_63 : decode cX0_search 63 = .ok (.if_icmp .ge 112, 3) := by decide +kernel
theorem dX0_search_66 : decode cX0_search 66 = .ok (.aload_n 0, 1) := by decide +kernel
theorem dX0_search_67 : decode cX0_search 67 = .ok (.getfield 29, 3) := by decide +kernel
theorem dX0_search_70 : decode cX0_search 70 = .ok (.iload 5, 2) := by decide +kernel
theorem dX0_search_72 : decode cX0_search 72 = .ok (.iaload, 1) := by decide +kernel
theorem dX0_search_73 : decode cX0_search 73 = .ok (.istore 6, 2) := by decide +kernel
theorem dX0_search_75 : decode cX0_search 75 = .ok (.iconst 0, 1) := by decide +kernel
theorem dX0_search_76 : decode cX0_search 76 = .ok (.istore 7, 2) := by decide +kernel
theorem dX0_search_78 : decode cX0_search 78 = .ok (.iload 7, 2) := by decide +kernel
theorem dX0_search_80 : decode cX0_search 80 = .ok (.bipush 17, 2) := by decide +kernel
theorem dX0_search_82 : decode cX0_search 82 = .ok (.if_icmp .ge 87, 3) := by decide +kernel
theorem dX0_search_85 : decode cX0_search 85 = .ok (.iload 7, 2) := by decide +kernel
theorem dX0_search_87 : decode cX0_search 87 = .ok (.iload 6, 2) := by decide +kernel
theorem dX0_search_89 : decode cX0_search 89 = .ok (.invokestatic 81, 3) := by decide +kernel
theorem dX0_search_92 : decode cX0_search 92 = .ok (.istore 8, 2) := by decide +kernel
theorem dX0_search_94 : decode cX0_search 94 = .ok (.iload 8, 2) := by decide +kernel
theorem dX0_search_96 : decode cX0_search 96 = .ok (.iconst (-1), 1) := by decide +kernel
theorem dX0_search_97 : decode cX0_search 97 = .ok (.if_icmp .eq 66, 3) := by decide +kernel
theorem dX0_search_100 : decode cX0_search 100 = .ok (.iload 4, 2) := by decide +kernel
theorem dX0_search_102 : decode cX0_search 102 = .ok (.iload 8, 2) := by decide +kernel
theorem dX0_search_104 : decode cX0_search 104 = .ok (.ishr, 1) := by decide +kernel
theorem dX0_search_105 : decode cX0_search 105 = .ok (.iconst 1, 1) := by decide +kernel
theorem dX0_search_106 : decode cX0_search 106 = .ok (.iand, 1) := by decide +kernel
theorem dX0_search_107 : decode cX0_search 107 = .ok (.ifCond .ne 56, 3) := by decide +kernel
theorem dX0_search_110 : decode cX0_search 110 = .ok (.aload_n 0, 1) := by decide +kernel
theorem dX0_search_111 : decode cX0_search 111 = .ok (.iload 7, 2) := by decide +kernel
theorem dX0_search_113 : decode cX0_search 113 = .ok (.iload 6, 2) := by decide +kernel
theorem dX0_search_115 : decode cX0_search 115 = .ok (.invokevirtual 84, 3) := by decide +kernel
theorem dX0_search_118 : decode cX0_search 118 = .ok (.ifCond .le 45, 3) := by decide +kernel
theorem dX0_search_121 : decode cX0_search 121 = .ok (.iload 4, 2) := by decide +kernel
theorem dX0_search_123 : decode cX0_search 123 = .ok (.iconst 1, 1) := by decide +kernel
theorem dX0_search_124 : decode cX0_search 124 = .ok (.iload 8, 2) := by decide +kernel
theorem dX0_search_126 : decode cX0_search 126 = .ok (.ishl, 1) := by decide +kernel
theorem dX0_search_127 : decode cX0_search 127 = .ok (.ior, 1) := by decide +kernel
theorem dX0_search_128 : decode cX0_search 128 = .ok (.istore 4, 2) := by decide +kernel
theorem dX0_search_130 : decode cX0_search 130 = .ok (.aload_n 0, 1) := by decide +kernel
theorem dX0_search_131 : decode cX0_search 131 = .ok (.getfield 26, 3) := by decide +kernel
theorem dX0_search_134 : decode cX0_search 134 = .ok (.iload 8, 2) := by decide +kernel
theorem dX0_search_136 : decode cX0_search 136 = .ok (.iload 7, 2) := by decide +kernel
theorem dX0_search_138 : decode cX0_search 138 = .ok (.iastore, 1) := by decide +kernel
theorem dX0_search_139 : decode cX0_search 139 = .ok (.iload_n 2, 1) := by decide +kernel
theorem dX0_search_140 : decode cX0_search 140 = .ok (.iload 8, 2) := by decide +kernel
theorem dX0_search_142 : decode cX0_search 142 = .ok (.ishr, 1) := by decide +kernel
theorem dX0_search_143 : decode cX0_search 143 = .ok (.iconst 1, 1) := by decide +kernel
theorem dX0_search_144 : decode cX0_search 144 = .ok (.iand, 1) := by decide +kernel
theorem dX0_search_145 : decode cX0_search 145 = .ok (.iconst 1, 1) := by decide +kernel
theorem dX0_search_146 : decode cX0_search 146 = .ok (.if_icmp .ne 6, 3) := by decide +kernel
theorem dX0_search_149 : decode cX0_search 149 = .ok (.iload 8, 2) := by decide +kernel
theorem dX0_search_151 : decode cX0_search 151 = .ok (.ireturn, 1) := by decide +kernel
theorem dX0_search_152 : decode cX0_search 152 = .ok (.aload_n 0, 1) := by decide +kernel
theorem dX0_search_153 : decode cX0_search 153 = .ok (.getfield 29, 3) := by decide +kernel
theorem dX0_search_156 : decode cX0_search 156 = .ok (.iload_n 3, 1) := by decide +kernel
theorem dX0_search_157 : decode cX0_search 157 = .ok (.iload 8, 2) := by decide +kernel
theorem dX0_search_159 : decode cX0_search 159 = .ok (.iastore, 1) := by decide +kernel
theorem dX0_search_160 : decode cX0_search 160 = .ok (.iinc 3 1, 3) := by decide +kernel
theorem dX0_search_163 : decode cX0_search 163 = .ok (.iinc 7 1, 3) := by decide +kernel
theorem dX0_search_166 : decode cX0_search 166 = .ok (.goto (-88), 3) := by decide +kernel
theorem dX0_search_169 : decode cX0_search 169 = .ok (.iinc 5 1, 3) := by decide +kernel
theorem dX0_search_172 : decode cX0_search 172 = .ok (.goto (-119), 3) := by decide +kernel
theorem dX0_search_175 : decode cX0_search 175 = .ok (.iconst (-1), 1) := by decide +kernel
theorem dX0_search_176 : decode cX0_search 176 = .ok (.ireturn, 1) := by decide +kernel
theorem dX0_otherEnd_0 : decode cX0_otherEnd 0 = .ok (.iload_n 0, 1) := by decide +kernel
theorem dX0_otherEnd_1 : decode cX0_otherEnd 1 = .ok (.invokestatic 39, 3) := by decide +kernel
theorem dX0_otherEnd_4 : decode cX0_otherEnd 4 = .ok (.iload_n 1, 1) := by decide +kernel
theorem dX0_otherEnd_5 : decode cX0_otherEnd 5 = .ok (.if_icmp .ne 8, 3) := by decide +kernel
theorem dX0_otherEnd_8 : decode cX0_otherEnd 8 = .ok (.iload_n 0, 1) := by decide +kernel
theorem dX0_otherEnd_9 : decode cX0_otherEnd 9 = .ok (.invokestatic 43, 3) := by decide +kernel
theorem dX0_otherEnd_12 : decode cX0_otherEnd 12 = .ok (.ireturn, 1) := by decide +kernel
theorem dX0_otherEnd_13 : decode cX0_otherEnd 13 = .ok (.iload_n 0, 1) := by decide +kernel
theorem dX0_otherEnd_14 : decode cX0_otherEnd 14 = .ok (.invokestatic 43, 3) := by decide +kernel
theorem dX0_otherEnd_17 : decode cX0_otherEnd 17 = .ok (.iload_n 1, 1) := by decide +kernel
theorem dX0_otherEnd_18 : decode cX0_otherEnd 18 = .ok (.if_icmp .ne 10, 3) := by decide +kernel
theorem dX0_otherEnd_21 : decode cX0_otherEnd 21 = .ok (.iload_n 0, 1) := by decide +kernel
theorem dX0_otherEnd_22 : decode cX0_otherEnd 22 = .ok (.invokestatic 39, 3) := by decide +kernel
theorem dX0_otherEnd_25 : decode cX0_otherEnd 25 = .ok (.goto 4, 3) := by decide +kernel
theorem dX0_otherEnd_28 : decode cX0_otherEnd 28 = .ok (.iconst (-1), 1) := by decide +kernel
theorem dX0_otherEnd_29 : decode cX0_otherEnd 29 = .ok (.ireturn, 1) := by decide +kernel
theorem dX0_left_0 : decode cX0_left 0 = .ok (.iload_n 1, 1) := by decide +kernel
theorem dX0_left_1 : decode cX0_left 1 = .ok (.invokestatic 39, 3) := by decide +kernel
theorem dX0_left_4 : decode cX0_left 4 = .ok (.iload_n 2, 1) := by decide +kernel
theorem dX0_left_5 : decode cX0_left 5 = .ok (.if_icmp .ne 18, 3) := by decide +kernel
theorem dX0_left_8 : decode cX0_left 8 = .ok (.aload_n 0, 1) := by decide +kernel
theorem dX0_left_9 : decode cX0_left 9 = .ok (.iload_n 1, 1) := by decide +kernel
theorem dX0_left_10 : decode cX0_left 10 = .ok (.invokevirtual 50, 3) := by decide +kernel
theorem dX0_left_13 : decode cX0_left 13 = .ok (.aload_n 0, 1) := by decide +kernel
theorem dX0_left_14 : decode cX0_left 14 = .ok (.getfield 17, 3) := by decide +kernel
theorem dX0_left_17 : decode cX0_left 17 = .ok (.iload_n 1, 1) := by decide +kernel
theorem dX0_left_18 : decode cX0_left 18 = .ok (.iaload, 1) := by decide +kernel
theorem dX0_left_19 : decode cX0_left 19 = .ok (.isub, 1) := by decide +kernel
theorem dX0_left_20 : decode cX0_left 20 = .ok (.goto 15, 3) := by decide +kernel
theorem dX0_left_23 : decode cX0_left 23 = .ok (.aload_n 0, 1) := by decide +kernel
theorem dX0_left_24 : decode cX0_left 24 = .ok (.iload_n 1, 1) := by decide +kernel
theorem dX0_left_25 : decode cX0_left 25 = .ok (.invokevirtual 50, 3) := by decide +kernel
theorem dX0_left_28 : decode cX0_left 28 = .ok (.aload_n 0, 1) := by decide +kernel
theorem dX0_left_29 : decode cX0_left 29 = .ok (.getfield 17, 3) := by decide +kernel
theorem dX0_left_32 : decode cX0_left 32 = .ok (.iload_n 1, 1) := by decide +kernel
theorem dX0_left_33 : decode cX0_left 33 = .ok (.iaload, 1) := by decide +kernel
theorem dX0_left_34 : decode cX0_left 34 = .ok (.iadd, 1) := by decide +kernel
theorem dX0_left_35 : decode cX0_left 35 = .ok (.ireturn, 1) := by decide +kernel
end
section
set_option maxRecDepth 100000
theorem dX0_push_0 : decode cX0_push 0 = .ok (.ldc 64, 2) := by decide +kernel
theorem dX0_push_2 : decode cX0_push 2 = .ok (.istore_n 3, 1) := by decide +kernel
theorem dX0_push_3 : decode cX0_push 3 = .ok (.iload_n 1, 1) := by decide +kernel
theorem dX0_push_4 : decode cX0_push 4 = .ok (.istore 4, 2) := by decide +kernel
theorem dX0_push_6 : decode cX0_push 6 = .ok (.iconst 0, 1) := by decide +kernel
theorem dX0_push_7 : decode cX0_push 7 = .ok (.istore 5, 2) := by decide +kernel
theorem dX0_push_9 : decode cX0_push 9 = .ok (.iload 5, 2) := by decide +kernel
theorem dX0_push_11 : decode cX0_push 11 = .ok (.bipush 12, 2) := by decide +kernel
theorem dX0_push_13 : decode cX0_push 13 = .ok (.if_icmp .ge 64, 3) := by decide +kernel
theorem dX0_push_16 : decode cX0_push 16 = .ok (.iload_n 2, 1) := by decide +kernel
theorem dX0_push_17 : decode cX0_push 17 = .ok (.iload 4, 2) := by decide +kernel
theorem dX0_push_19 : decode cX0_push 19 = .ok (.ishr, 1) := by decide +kernel
theorem dX0_push_20 : decode cX0_push 20 = .ok (.iconst 1, 1) := by decide +kernel
theorem dX0_push_21 : decode cX0_push 21 = .ok (.iand, 1) := by decide +kernel
theorem dX0_push_22 : decode cX0_push 22 = .ok (.ifCond .ne 55, 3) := by decide +kernel
theorem dX0_push_25 : decode cX0_push 25 = .ok (.aload_n 0, 1) := by decide +kernel
theorem dX0_push_26 : decode cX0_push 26 = .ok (.getfield 26, 3) := by decide +kernel
theorem dX0_push_29 : decode cX0_push 29 = .ok (.iload 4, 2) := by decide +kernel
theorem dX0_push_31 : decode cX0_push 31 = .ok (.iaload, 1) := by decide +kernel
theorem dX0_push_32 : decode cX0_push 32 = .ok (.iload 4, 2) := by decide +kernel
theorem dX0_push_34 : decode cX0_push 34 = .ok (.invokestatic 81, 3) := by decide +kernel
theorem dX0_push_37 : decode cX0_push 37 = .ok (.istore 6, 2) := by decide +kernel
theorem dX0_push_39 : decode cX0_push 39 = .ok (.aload_n 0, 1) := by decide +kernel
theorem dX0_push_40 : decode cX0_push 40 = .ok (.aload_n 0, 1) := by decide +kernel
theorem dX0_push_41 : decode cX0_push 41 = .ok (.getfield 26, 3) := by decide +kernel
theorem dX0_push_44 : decode cX0_push 44 = .ok (.iload 4, 2) := by decide +kernel
theorem dX0_push_46 : decode cX0_push 46 = .ok (.iaload, 1) := by decide +kernel
theorem dX0_push_47 : decode cX0_push 47 = .ok (.iload 6, 2) := by decide +kernel
theorem dX0_push_49 : decode cX0_push 49 = .ok (.invokevirtual 84, 3) := by decide +kernel
theorem dX0_push_52 : decode cX0_push 52 = .ok (.istore 7, 2) := by decide +kernel
theorem dX0_push_54 : decode cX0_push 54 = .ok (.iload 7, 2) := by decide +kernel
theorem dX0_push_56 : decode cX0_push 56 = .ok (.iload_n 3, 1) := by decide +kernel
theorem dX0_push_57 : decode cX0_push 57 = .ok (.if_icmp .ge 8, 3) := by decide +kernel
theorem dX0_push_60 : decode cX0_push 60 = .ok (.iload 7, 2) := by decide +kernel
theorem dX0_push_62 : decode cX0_push 62 = .ok (.goto 4, 3) := by decide +kernel
theorem dX0_push_65 : decode cX0_push 65 = .ok (.iload_n 3, 1) := by decide +kernel
theorem dX0_push_66 : decode cX0_push 66 = .ok (.istore_n 3, 1) := by decide +kernel
theorem dX0_push_67 : decode cX0_push 67 = .ok (.iload 6, 2) := by decide +kernel
theorem dX0_push_69 : decode cX0_push 69 = .ok (.istore 4, 2) := by decide +kernel
theorem dX0_push_71 : decode cX0_push 71 = .ok (.iinc 5 1, 3) := by decide +kernel
theorem dX0_push_74 : decode cX0_push 74 = .ok (.goto (-65), 3) := by decide +kernel
theorem dX0_push_77 : decode cX0_push 77 = .ok (.iload_n 1, 1) := by decide +kernel
theorem dX0_push_78 : decode cX0_push 78 = .ok (.istore 4, 2) := by decide +kernel
theorem dX0_push_80 : decode cX0_push 80 = .ok (.iconst 0, 1) := by decide +kernel
theorem dX0_push_81 : decode cX0_push 81 = .ok (.istore 5, 2) := by decide +kernel
theorem dX0_push_83 : decode cX0_push 83 = .ok (.iload 5, 2) := by decide +kernel
theorem dX0_push_85 : decode cX0_push 85 = .ok (.bipush 12, 2) := by decide +kernel
theorem dX0_push_87 : decode cX0_push 87 = .ok (.if_icmp .ge 72, 3) := by decide +kernel
theorem dX0_push_90 : decode cX0_push 90 = .ok (.iload_n 2, 1) := by decide +kernel
theorem dX0_push_91 : decode cX0_push 91 = .ok (.iload 4, 2) := by decide +kernel
theorem dX0_push_93 : decode cX0_push 93 = .ok (.ishr, 1) := by decide +kernel
theorem dX0_push_94 : decode cX0_push 94 = .ok (.iconst 1, 1) := by decide +kernel
theorem dX0_push_95 : decode cX0_push 95 = .ok (.iand, 1) := by decide +kernel
theorem dX0_push_96 : decode cX0_push 96 = .ok (.ifCond .ne 63, 3) := by decide +kernel
theorem dX0_push_99 : decode cX0_push 99 = .ok (.aload_n 0, 1) := by decide +kernel
theorem dX0_push_100 : decode cX0_push 100 = .ok (.getfield 26, 3) := by decide +kernel
theorem dX0_push_103 : decode cX0_push 103 = .ok (.iload 4, 2) := by decide +kernel
theorem dX0_push_105 : decode cX0_push 105 = .ok (.iaload, 1) := by decide +kernel
theorem dX0_push_106 : decode cX0_push 106 = .ok (.iload 4, 2) := by decide +kernel
theorem dX0_push_108 : decode cX0_push 108 = .ok (.invokestatic 81, 3) := by decide +kernel
theorem dX0_push_111 : decode cX0_push 111 = .ok (.istore 6, 2) := by decide +kernel
theorem dX0_push_113 : decode cX0_push 113 = .ok (.aload_n 0, 1) := by decide +kernel
theorem dX0_push_114 : decode cX0_push 114 = .ok (.getfield 17, 3) := by decide +kernel
theorem dX0_push_117 : decode cX0_push 117 = .ok (.aload_n 0, 1) := by decide +kernel
theorem dX0_push_118 : decode cX0_push 118 = .ok (.getfield 26, 3) := by decide +kernel
theorem dX0_push_121 : decode cX0_push 121 = .ok (.iload 4, 2) := by decide +kernel
theorem dX0_push_123 : decode cX0_push 123 = .ok (.iaload, 1) := by decide +kernel
theorem dX0_push_124 : decode cX0_push 124 = .ok (.dup2, 1) := by decide +kernel
theorem dX0_push_125 : decode cX0_push 125 = .ok (.iaload, 1) := by decide +kernel
theorem dX0_push_126 : decode cX0_push 126 = .ok (.aload_n 0, 1) := by decide +kernel
theorem dX0_push_127 : decode cX0_push 127 = .ok (.getfield 26, 3) := by decide +kernel
theorem dX0_push_130 : decode cX0_push 130 = .ok (.iload 4, 2) := by decide +kernel
theorem dX0_push_132 : decode cX0_push 132 = .ok (.iaload, 1) := by decide +kernel
theorem dX0_push_133 : decode cX0_push 133 = .ok (.invokestatic 39, 3) := by decide +kernel
theorem dX0_push_136 : decode cX0_push 136 = .ok (.iload 6, 2) := by decide +kernel
theorem dX0_push_138 : decode cX0_push 138 = .ok (.if_icmp .ne 7, 3) := by decide +kernel
theorem dX0_push_141 : decode cX0_push 141 = .ok (.iload_n 3, 1) := by decide +kernel
theorem dX0_push_142 : decode cX0_push 142 = .ok (.goto 5, 3) := by decide +kernel
theorem dX0_push_145 : decode cX0_push 145 = .ok (.iload_n 3, 1) := by decide +kernel
theorem dX0_push_146 : decode cX0_push 146 = .ok (.ineg, 1) := by decide +kernel
theorem dX0_push_147 : decode cX0_push 147 = .ok (.iadd, 1) := by decide +kernel
theorem dX0_push_148 : decode cX0_push 148 = .ok (.iastore, 1) := by decide +kernel
theorem dX0_push_149 : decode cX0_push 149 = .ok (.iload 6, 2) := by decide +kernel
theorem dX0_push_151 : decode cX0_push 151 = .ok (.istore 4, 2) := by decide +kernel
theorem dX0_push_153 : decode cX0_push 153 = .ok (.iinc 5 1, 3) := by decide +kernel
theorem dX0_push_156 : decode cX0_push 156 = .ok (.goto (-73), 3) := by decide +kernel
theorem dX0_push_159 : decode cX0_push 159 = .ok (.iload_n 3, 1) := by decide +kernel
theorem dX0_push_160 : decode cX0_push 160 = .ok (.ireturn, 1) := by decide +kernel
theorem dX0_reached_0 : decode cX0_reached 0 = .ok (.iload_n 1, 1) := by decide +kernel
theorem dX0_reached_1 : decode cX0_reached 1 = .ok (.istore_n 3, 1) := by decide +kernel
theorem dX0_reached_2 : decode cX0_reached 2 = .ok (.iconst 0, 1) := by decide +kernel
theorem dX0_reached_3 : decode cX0_reached 3 = .ok (.istore 4, 2) := by decide +kernel
theorem dX0_reached_5 : decode cX0_reached 5 = .ok (.iload 4, 2) := by decide +kernel
theorem dX0_reached_7 : decode cX0_reached 7 = .ok (.bipush 12, 2) := by decide +kernel
theorem dX0_reached_9 : decode cX0_reached 9 = .ok (.if_icmp .ge 109, 3) := by decide +kernel
theorem dX0_reached_12 : decode cX0_reached 12 = .ok (.iconst 0, 1) := by decide +kernel
theorem dX0_reached_13 : decode cX0_reached 13 = .ok (.istore 5, 2) := by decide +kernel
theorem dX0_reached_15 : decode cX0_reached 15 = .ok (.iload 5, 2) := by decide +kernel
theorem dX0_reached_17 : decode cX0_reached 17 = .ok (.bipush 34, 2) := by decide +kernel
theorem dX0_reached_19 : decode cX0_reached 19 = .ok (.if_icmp .ge 93, 3) := by decide +kernel
theorem dX0_reached_22 : decode cX0_reached 22 = .ok (.iload 5, 2) := by decide +kernel
theorem dX0_reached_24 : decode cX0_reached 24 = .ok (.iconst 1, 1) := by decide +kernel
theorem dX0_reached_25 : decode cX0_reached 25 = .ok (.ishr, 1) := by decide +kernel
theorem dX0_reached_26 : decode cX0_reached 26 = .ok (.istore 6, 2) := by decide +kernel
theorem dX0_reached_28 : decode cX0_reached 28 = .ok (.iload 5, 2) := by decide +kernel
theorem dX0_reached_30 : decode cX0_reached 30 = .ok (.iconst 1, 1) := by decide +kernel
theorem dX0_reached_31 : decode cX0_reached 31 = .ok (.iand, 1) := by decide +kernel
theorem dX0_reached_32 : decode cX0_reached 32 = .ok (.ifCond .ne 11, 3) := by decide +kernel
theorem dX0_reached_35 : decode cX0_reached 35 = .ok (.iload 6, 2) := by decide +kernel
theorem dX0_reached_37 : decode cX0_reached 37 = .ok (.invokestatic 39, 3) := by decide +kernel
theorem dX0_reached_40 : decode cX0_reached 40 = .ok (.goto 8, 3) := by decide +kernel
theorem dX0_reached_43 : decode cX0_reached 43 = .ok (.iload 6, 2) := by decide +kernel
theorem dX0_reached_45 : decode cX0_reached 45 = .ok (.invokestatic 43, 3) := by decide +kernel
theorem dX0_reached_48 : decode cX0_reached 48 = .ok (.istore 7, 2) := by decide +kernel
theorem dX0_reached_50 : decode cX0_reached 50 = .ok (.iload 6, 2) := by decide +kernel
theorem dX0_reached_52 : decode cX0_reached 52 = .ok (.iload 7, 2) := by decide +kernel
theorem dX0_reached_54 : decode cX0_reached 54 = .ok (.invokestatic 81, 3) := by decide +kernel
theorem dX0_reached_57 : decode cX0_reached 57 = .ok (.istore 8, 2) := by decide +kernel
theorem dX0_reached_59 : decode cX0_reached 59 = .ok (.iload_n 2, 1) := by decide +kernel
theorem dX0_reached_60 : decode cX0_reached 60 = .ok (.ifCond .eq 14, 3) := by decide +kernel
theorem dX0_reached_63 : decode cX0_reached 63 = .ok (.aload_n 0, 1) := by decide +kernel
theorem dX0_reached_64 : decode cX0_reached 64 = .ok (.iload 6, 2) := by decide +kernel
theorem dX0_reached_66 : decode cX0_reached 66 = .ok (.iload 7, 2) := by decide +kernel
theorem dX0_reached_68 : decode cX0_reached 68 = .ok (.invokevirtual 84, 3) := by decide +kernel
theorem dX0_reached_71 : decode cX0_reached 71 = .ok (.goto 11, 3) := by decide +kernel
theorem dX0_reached_74 : decode cX0_reached 74 = .ok (.aload_n 0, 1) := by decide +kernel
theorem dX0_reached_75 : decode cX0_reached 75 = .ok (.iload 6, 2) := by decide +kernel
theorem dX0_reached_77 : decode cX0_reached 77 = .ok (.iload 8, 2) := by decide +kernel
theorem dX0_reached_79 : decode cX0_reached 79 = .ok (.invokevirtual 84, 3) := by decide +kernel
theorem dX0_reached_82 : decode cX0_reached 82 = .ok (.istore 9, 2) := by decide +kernel
theorem dX0_reached_84 : decode cX0_reached 84 = .ok (.iload_n 3, 1) := by decide +kernel
theorem dX0_reached_85 : decode cX0_reached 85 = .ok (.iload 7, 2) := by decide +kernel
theorem dX0_reached_87 : decode cX0_reached 87 = .ok (.ishr, 1) := by decide +kernel
theorem dX0_reached_88 : decode cX0_reached 88 = .ok (.iconst 1, 1) := by decide +kernel
theorem dX0_reached_89 : decode cX0_reached 89 = .ok (.iand, 1) := by decide +kernel
theorem dX0_reached_90 : decode cX0_reached 90 = .ok (.iconst 1, 1) := by decide +kernel
theorem dX0_reached_91 : decode cX0_reached 91 = .ok (.if_icmp .ne 15, 3) := by decide +kernel
theorem dX0_reached_94 : decode cX0_reached 94 = .ok (.iload 9, 2) := by decide +kernel
theorem dX0_reached_96 : decode cX0_reached 96 = .ok (.ifCond .le 10, 3) := by decide +kernel
theorem dX0_reached_99 : decode cX0_reached 99 = .ok (.iload_n 3, 1) := by decide +kernel
theorem dX0_reached_100 : decode cX0_reached 100 = .ok (.iconst 1, 1) := by decide +kernel
theorem dX0_reached_101 : decode cX0_reached 101 = .ok (.iload 8, 2) := by decide +kernel
theorem dX0_reached_103 : decode cX0_reached 103 = .ok (.ishl, 1) := by decide +kernel
theorem dX0_reached_104 : decode cX0_reached 104 = .ok (.ior, 1) := by decide +kernel
theorem dX0_reached_105 : decode cX0_reached 105 = .ok (.istore_n 3, 1) := by decide +kernel
theorem dX0_reached_106 : decode cX0_reached 106 = .ok (.iinc 5 1, 3) := by decide +kernel
theorem dX0_reached_109 : decode cX0_reached 109 = .ok (.goto (-94), 3) := by decide +kernel
theorem dX0_reached_112 : decode cX0_reached 112 = .ok (.iinc 4 1, 3) := by decide +kernel
theorem dX0_reached_115 : decode cX0_reached 115 = .ok (.goto (-110), 3) := by decide +kernel
theorem dX0_reached_118 : decode cX0_reached 118 = .ok (.iload_n 3, 1) := by decide +kernel
theorem dX0_reached_119 : decode cX0_reached 119 = .ok (.ireturn, 1) := by decide +kernel
theorem dX0_lastCut_0 : decode cX0_lastCut 0 = .ok (.aload_n 0, 1) := by decide +kernel
theorem dX0_lastCut_1 : decode cX0_lastCut 1 = .ok (.iconst 1, 1) := by decide +kernel
theorem dX0_lastCut_2 : decode cX0_lastCut 2 = .ok (.sipush 2048, 3) := by decide +kernel
theorem dX0_lastCut_5 : decode cX0_lastCut 5 = .ok (.invokevirtual 53, 3) := by decide +kernel
theorem dX0_lastCut_8 : decode cX0_lastCut 8 = .ok (.pop, 1) := by decide +kernel
theorem dX0_lastCut_9 : decode cX0_lastCut 9 = .ok (.sipush 4095, 3) := by decide +kernel
theorem dX0_lastCut_12 : decode cX0_lastCut 12 = .ok (.aload_n 0, 1) := by decide +kernel
theorem dX0_lastCut_13 : decode cX0_lastCut 13 = .ok (.sipush 2048, 3) := by decide +kernel
theorem dX0_lastCut_16 : decode cX0_lastCut 16 = .ok (.iconst 0, 1) := by decide +kernel
theorem dX0_lastCut_17 : decode cX0_lastCut 17 = .ok (.invokevirtual 57, 3) := by decide +kernel
theorem dX0_lastCut_20 : decode cX0_lastCut 20 = .ok (.iconst (-1), 1) := by decide +kernel
theorem dX0_lastCut_21 : decode cX0_lastCut 21 = .ok (.ixor, 1) := by decide +kernel
theorem dX0_lastCut_22 : decode cX0_lastCut 22 = .ok (.iand, 1) := by decide +kernel
theorem dX0_lastCut_23 : decode cX0_lastCut 23 = .ok (.ireturn, 1) := by decide +kernel
theorem dX0_leastWith_0 : decode cX0_leastWith 0 = .ok (.iload_n 1, 1) := by decide +kernel
theorem dX0_leastWith_1 : decode cX0_leastWith 1 = .ok (.invokestatic 36, 3) := by decide +kernel
theorem dX0_leastWith_4 : decode cX0_leastWith 4 = .ok (.ifCond .ne 5, 3) := by decide +kernel
theorem dX0_leastWith_7 : decode cX0_leastWith 7 = .ok (.iconst (-1), 1) := by decide +kernel
theorem dX0_leastWith_8 : decode cX0_leastWith 8 = .ok (.ireturn, 1) := by decide +kernel
theorem dX0_leastWith_9 : decode cX0_leastWith 9 = .ok (.iload_n 1, 1) := by decide +kernel
theorem dX0_leastWith_10 : decode cX0_leastWith 10 = .ok (.bipush 11, 2) := by decide +kernel
theorem dX0_leastWith_12 : decode cX0_leastWith 12 = .ok (.if_icmp .ne 6, 3) := by decide +kernel
theorem dX0_leastWith_15 : decode cX0_leastWith 15 = .ok (.bipush (-2), 2) := by decide +kernel
theorem dX0_leastWith_17 : decode cX0_leastWith 17 = .ok (.ireturn, 1) := by decide +kernel
theorem dX0_leastWith_18 : decode cX0_leastWith 18 = .ok (.aload_n 0, 1) := by decide +kernel
theorem dX0_leastWith_19 : decode cX0_leastWith 19 = .ok (.iconst 1, 1) := by decide +kernel
theorem dX0_leastWith_20 : decode cX0_leastWith 20 = .ok (.iconst 1, 1) := by decide +kernel
theorem dX0_leastWith_21 : decode cX0_leastWith 21 = .ok (.iload_n 1, 1) := by decide +kernel
theorem dX0_leastWith_22 : decode cX0_leastWith 22 = .ok (.ishl, 1) := by decide +kernel
theorem dX0_leastWith_23 : decode cX0_leastWith 23 = .ok (.ior, 1) := by decide +kernel
theorem dX0_leastWith_24 : decode cX0_leastWith 24 = .ok (.sipush 2048, 3) := by decide +kernel
theorem dX0_leastWith_27 : decode cX0_leastWith 27 = .ok (.invokevirtual 53, 3) := by decide +kernel
theorem dX0_leastWith_30 : decode cX0_leastWith 30 = .ok (.ireturn, 1) := by decide +kernel
theorem dX0_leastWithout_0 : decode cX0_leastWithout 0 = .ok (.iload_n 1, 1) := by decide +kernel
theorem dX0_leastWithout_1 : decode cX0_leastWithout 1 = .ok (.invokestatic 36, 3) := by decide +kernel
theorem dX0_leastWithout_4 : decode cX0_leastWithout 4 = .ok (.ifCond .ne 5, 3) := by decide +kernel
theorem dX0_leastWithout_7 : decode cX0_leastWithout 7 = .ok (.iconst (-1), 1) := by decide +kernel
theorem dX0_leastWithout_8 : decode cX0_leastWithout 8 = .ok (.ireturn, 1) := by decide +kernel
theorem dX0_leastWithout_9 : decode cX0_leastWithout 9 = .ok (.iload_n 1, 1) := by decide +kernel
theorem dX0_leastWithout_10 : decode cX0_leastWithout 10 = .ok (.ifCond .ne 6, 3) := by decide +kernel
theorem dX0_leastWithout_13 : decode cX0_leastWithout 13 = .ok (.bipush (-2), 2) := by decide +kernel
theorem dX0_leastWithout_15 : decode cX0_leastWithout 15 = .ok (.ireturn, 1) := by decide +kernel
theorem dX0_leastWithout_16 : decode cX0_leastWithout 16 = .ok (.aload_n 0, 1) := by decide +kernel
theorem dX0_leastWithout_17 : decode cX0_leastWithout 17 = .ok (.iconst 1, 1) := by decide +kernel
theorem dX0_leastWithout_18 : decode cX0_leastWithout 18 = .ok (.sipush 2048, 3) := by decide +kernel
theorem dX0_leastWithout_21 : decode cX0_leastWithout 21 = .ok (.iconst 1, 1) := by decide +kernel
theorem dX0_leastWithout_22 : decode cX0_leastWithout 22 = .ok (.iload_n 1, 1) := by decide +kernel
theorem dX0_leastWithout_23 : decode cX0_leastWithout 23 = .ok (.ishl, 1) := by decide +kernel
theorem dX0_leastWithout_24 : decode cX0_leastWithout 24 = .ok (.ior, 1) := by decide +kernel
theorem dX0_leastWithout_25 : decode cX0_leastWithout 25 = .ok (.invokevirtual 53, 3) := by decide +kernel
theorem dX0_leastWithout_28 : decode cX0_leastWithout 28 = .ok (.ireturn, 1) := by decide +kernel
theorem dX0_loss_0 : decode cX0_loss 0 = .ok (.iload_n 1, 1) := by decide +kernel
theorem dX0_loss_1 : decode cX0_loss 1 = .ok (.invokestatic 32, 3) := by decide +kernel
theorem dX0_loss_4 : decode cX0_loss 4 = .ok (.ifCond .ne 5, 3) := by decide +kernel
theorem dX0_loss_7 : decode cX0_loss 7 = .ok (.iconst (-1), 1) := by decide +kernel
theorem dX0_loss_8 : decode cX0_loss 8 = .ok (.ireturn, 1) := by decide +kernel
theorem dX0_loss_9 : decode cX0_loss 9 = .ok (.aload_n 0, 1) := by decide +kernel
theorem dX0_loss_10 : decode cX0_loss 10 = .ok (.invokevirtual 46, 3) := by decide +kernel
theorem dX0_loss_13 : decode cX0_loss 13 = .ok (.istore_n 2, 1) := by decide +kernel
theorem dX0_loss_14 : decode cX0_loss 14 = .ok (.aload_n 0, 1) := by decide +kernel
theorem dX0_loss_15 : decode cX0_loss 15 = .ok (.getfield 13, 3) := by decide +kernel
theorem dX0_loss_18 : decode cX0_loss 18 = .ok (.iload_n 1, 1) := by decide +kernel
theorem dX0_loss_19 : decode cX0_loss 19 = .ok (.baload, 1) := by decide +kernel
theorem dX0_loss_20 : decode cX0_loss 20 = .ok (.istore_n 3, 1) := by decide +kernel
theorem dX0_loss_21 : decode cX0_loss 21 = .ok (.aload_n 0, 1) := by decide +kernel
theorem dX0_loss_22 : decode cX0_loss 22 = .ok (.getfield 13, 3) := by decide +kernel
theorem dX0_loss_25 : decode cX0_loss 25 = .ok (.iload_n 1, 1) := by decide +kernel
theorem dX0_loss_26 : decode cX0_loss 26 = .ok (.iconst 1, 1) := by decide +kernel
theorem dX0_loss_27 : decode cX0_loss 27 = .ok (.bastore, 1) := by decide +kernel
theorem dX0_loss_28 : decode cX0_loss 28 = .ok (.aload_n 0, 1) := by decide +kernel
theorem dX0_loss_29 : decode cX0_loss 29 = .ok (.invokevirtual 46, 3) := by decide +kernel
theorem dX0_loss_32 : decode cX0_loss 32 = .ok (.istore 4, 2) := by decide +kernel
theorem dX0_loss_34 : decode cX0_loss 34 = .ok (.aload_n 0, 1) := by decide +kernel
theorem dX0_loss_35 : decode cX0_loss 35 = .ok (.getfield 13, 3) := by decide +kernel
theorem dX0_loss_38 : decode cX0_loss 38 = .ok (.iload_n 1, 1) := by decide +kernel
theorem dX0_loss_39 : decode cX0_loss 39 = .ok (.iload_n 3, 1) := by decide +kernel
theorem dX0_loss_40 : decode cX0_loss 40 = .ok (.bastore, 1) := by decide +kernel
theorem dX0_loss_41 : decode cX0_loss 41 = .ok (.iload_n 2, 1) := by decide +kernel
theorem dX0_loss_42 : decode cX0_loss 42 = .ok (.iload 4, 2) := by decide +kernel
theorem dX0_loss_44 : decode cX0_loss 44 = .ok (.isub, 1) := by decide +kernel
theorem dX0_loss_45 : decode cX0_loss 45 = .ok (.ireturn, 1) := by decide +kernel
theorem dX0_gain_0 : decode cX0_gain 0 = .ok (.iload_n 1, 1) := by decide +kernel
theorem dX0_gain_1 : decode cX0_gain 1 = .ok (.invokestatic 32, 3) := by decide +kernel
theorem dX0_gain_4 : decode cX0_gain 4 = .ok (.ifCond .ne 5, 3) := by decide +kernel
theorem dX0_gain_7 : decode cX0_gain 7 = .ok (.iconst (-1), 1) := by decide +kernel
theorem dX0_gain_8 : decode cX0_gain 8 = .ok (.ireturn, 1) := by decide +kernel
theorem dX0_gain_9 : decode cX0_gain 9 = .ok (.iload_n 2, 1) := by decide +kernel
theorem dX0_gain_10 : decode cX0_gain 10 = .ok (.ifCond .lt 9, 3) := by decide +kernel
theorem dX0_gain_13 : decode cX0_gain 13 = .ok (.iload_n 2, 1) := by decide +kernel
theorem dX0_gain_14 : decode cX0_gain 14 = .ok (.bipush 100, 2) := by decide +kernel
theorem dX0_gain_16 : decode cX0_gain 16 = .ok (.if_icmp .le 6, 3) := by decide +kernel
theorem dX0_gain_19 : decode cX0_gain 19 = .ok (.bipush (-2), 2) := by decide +kernel
theorem dX0_gain_21 : decode cX0_gain 21 = .ok (.ireturn, 1) := by decide +kernel
theorem dX0_gain_22 : decode cX0_gain 22 = .ok (.aload_n 0, 1) := by decide +kernel
theorem dX0_gain_23 : decode cX0_gain 23 = .ok (.invokevirtual 46, 3) := by decide +kernel
theorem dX0_gain_26 : decode cX0_gain 26 = .ok (.istore_n 3, 1) := by decide +kernel
theorem dX0_gain_27 : decode cX0_gain 27 = .ok (.aload_n 0, 1) := by decide +kernel
theorem dX0_gain_28 : decode cX0_gain 28 = .ok (.getfield 7, 3) := by decide +kernel
theorem dX0_gain_31 : decode cX0_gain 31 = .ok (.iload_n 1, 1) := by decide +kernel
theorem dX0_gain_32 : decode cX0_gain 32 = .ok (.dup2, 1) := by decide +kernel
theorem dX0_gain_33 : decode cX0_gain 33 = .ok (.iaload, 1) := by decide +kernel
theorem dX0_gain_34 : decode cX0_gain 34 = .ok (.iload_n 2, 1) := by decide +kernel
theorem dX0_gain_35 : decode cX0_gain 35 = .ok (.iadd, 1) := by decide +kernel
theorem dX0_gain_36 : decode cX0_gain 36 = .ok (.iastore, 1) := by decide +kernel
theorem dX0_gain_37 : decode cX0_gain 37 = .ok (.aload_n 0, 1) := by decide +kernel
theorem dX0_gain_38 : decode cX0_gain 38 = .ok (.invokevirtual 46, 3) := by decide +kernel
theorem dX0_gain_41 : decode cX0_gain 41 = .ok (.istore 4, 2) := by decide +kernel
theorem dX0_gain_43 : decode cX0_gain 43 = .ok (.aload_n 0, 1) := by decide +kernel
theorem dX0_gain_44 : decode cX0_gain 44 = .ok (.getfield 7, 3) := by decide +kernel
theorem dX0_gain_47 : decode cX0_gain 47 = .ok (.iload_n 1, 1) := by decide +kernel
theorem dX0_gain_48 : decode cX0_gain 48 = .ok (.dup2, 1) := by decide +kernel
theorem dX0_gain_49 : decode cX0_gain 49 = .ok (.iaload, 1) := by decide +kernel
theorem dX0_gain_50 : decode cX0_gain 50 = .ok (.iload_n 2, 1) := by decide +kernel
theorem dX0_gain_51 : decode cX0_gain 51 = .ok (.isub, 1) := by decide +kernel
theorem dX0_gain_52 : decode cX0_gain 52 = .ok (.iastore, 1) := by decide +kernel
theorem dX0_gain_53 : decode cX0_gain 53 = .ok (.iload 4, 2) := by decide +kernel
theorem dX0_gain_55 : decode cX0_gain 55 = .ok (.iload_n 3, 1) := by decide +kernel
theorem dX0_gain_56 : decode cX0_gain 56 = .ok (.isub, 1) := by decide +kernel
theorem dX0_gain_57 : decode cX0_gain 57 = .ok (.ireturn, 1) := by decide +kernel
theorem dX0_way_0 : decode cX0_way 0 = .ok (.iload_n 1, 1) := by decide +kernel
theorem dX0_way_1 : decode cX0_way 1 = .ok (.invokestatic 36, 3) := by decide +kernel
theorem dX0_way_4 : decode cX0_way 4 = .ok (.ifCond .eq 10, 3) := by decide +kernel
theorem dX0_way_7 : decode cX0_way 7 = .ok (.iload_n 2, 1) := by decide +kernel
theorem dX0_way_8 : decode cX0_way 8 = .ok (.invokestatic 36, 3) := by decide +kernel
theorem dX0_way_11 : decode cX0_way 11 = .ok (.ifCond .ne 5, 3) := by decide +kernel
theorem dX0_way_14 : decode cX0_way 14 = .ok (.iconst (-1), 1) := by decide +kernel
theorem dX0_way_15 : decode cX0_way 15 = .ok (.ireturn, 1) := by decide +kernel
theorem dX0_way_16 : decode cX0_way 16 = .ok (.iconst 0, 1) := by decide +kernel
theorem dX0_way_17 : decode cX0_way 17 = .ok (.istore_n 3, 1) := by decide +kernel
theorem dX0_way_18 : decode cX0_way 18 = .ok (.iload_n 3, 1) := by decide +kernel
theorem dX0_way_19 : decode cX0_way 19 = .ok (.bipush 17, 2) := by decide +kernel
theorem dX0_way_21 : decode cX0_way 21 = .ok (.if_icmp .ge 16, 3) := by decide +kernel
theorem dX0_way_24 : decode cX0_way 24 = .ok (.aload_n 0, 1) := by decide +kernel
theorem dX0_way_25 : decode cX0_way 25 = .ok (.getfield 17, 3) := by decide +kernel
theorem dX0_way_28 : decode cX0_way 28 = .ok (.iload_n 3, 1) := by decide +kernel
theorem dX0_way_29 : decode cX0_way 29 = .ok (.iconst 0, 1) := by decide +kernel
theorem dX0_way_30 : decode cX0_way 30 = .ok (.iastore, 1) := by decide +kernel
theorem dX0_way_31 : decode cX0_way 31 = .ok (.iinc 3 1, 3) := by decide +kernel
theorem dX0_way_34 : decode cX0_way 34 = .ok (.goto (-16), 3) := by decide +kernel
theorem dX0_way_37 : decode cX0_way 37 = .ok (.aload_n 0, 1) := by decide +kernel
theorem dX0_way_38 : decode cX0_way 38 = .ok (.iconst 1, 1) := by decide +kernel
theorem dX0_way_39 : decode cX0_way 39 = .ok (.iload_n 1, 1) := by decide +kernel
theorem dX0_way_40 : decode cX0_way 40 = .ok (.ishl, 1) := by decide +kernel
theorem dX0_way_41 : decode cX0_way 41 = .ok (.iconst 1, 1) := by decide +kernel
theorem dX0_way_42 : decode cX0_way 42 = .ok (.invokevirtual 57, 3) := by decide +kernel
theorem dX0_way_45 : decode cX0_way 45 = .ok (.istore_n 3, 1) := by decide +kernel
theorem dX0_way_46 : decode cX0_way 46 = .ok (.iload_n 3, 1) := by decide +kernel
theorem dX0_way_47 : decode cX0_way 47 = .ok (.iload_n 2, 1) := by decide +kernel
theorem dX0_way_48 : decode cX0_way 48 = .ok (.ishr, 1) := by decide +kernel
theorem dX0_way_49 : decode cX0_way 49 = .ok (.iconst 1, 1) := by decide +kernel
theorem dX0_way_50 : decode cX0_way 50 = .ok (.iand, 1) := by decide +kernel
theorem dX0_way_51 : decode cX0_way 51 = .ok (.ireturn, 1) := by decide +kernel
theorem dX0_cutStreets_0 : decode cX0_cutStreets 0 = .ok (.aload_n 0, 1) := by decide +kernel
theorem dX0_cutStreets_1 : decode cX0_cutStreets 1 = .ok (.invokevirtual 61, 3) := by decide +kernel
theorem dX0_cutStreets_4 : decode cX0_cutStreets 4 = .ok (.istore_n 1, 1) := by decide +kernel
theorem dX0_cutStreets_5 : decode cX0_cutStreets 5 = .ok (.iconst 0, 1) := by decide +kernel
theorem dX0_cutStreets_6 : decode cX0_cutStreets 6 = .ok (.istore_n 2, 1) := by decide +kernel
theorem dX0_cutStreets_7 : decode cX0_cutStreets 7 = .ok (.iconst 0, 1) := by decide +kernel
theorem dX0_cutStreets_8 : decode cX0_cutStreets 8 = .ok (.istore_n 3, 1) := by decide +kernel
theorem dX0_cutStreets_9 : decode cX0_cutStreets 9 = .ok (.iload_n 3, 1) := by decide +kernel
theorem dX0_cutStreets_10 : decode cX0_cutStreets 10 = .ok (.bipush 17, 2) := by decide +kernel
theorem dX0_cutStreets_12 : decode cX0_cutStreets 12 = .ok (.if_icmp .ge 48, 3) := by decide +kernel
theorem dX0_cutStreets_15 : decode cX0_cutStreets 15 = .ok (.iload_n 1, 1) := by decide +kernel
theorem dX0_cutStreets_16 : decode cX0_cutStreets 16 = .ok (.iload_n 3, 1) := by decide +kernel
theorem dX0_cutStreets_17 : decode cX0_cutStreets 17 = .ok (.invokestatic 39, 3) := by decide +kernel
theorem dX0_cutStreets_20 : decode cX0_cutStreets 20 = .ok (.ishr, 1) := by decide +kernel
theorem dX0_cutStreets_21 : decode cX0_cutStreets 21 = .ok (.iload_n 1, 1) := by decide +kernel
theorem dX0_cutStreets_22 : decode cX0_cutStreets 22 = .ok (.iload_n 3, 1) := by decide +kernel
theorem dX0_cutStreets_23 : decode cX0_cutStreets 23 = .ok (.invokestatic 43, 3) := by decide +kernel
theorem dX0_cutStreets_26 : decode cX0_cutStreets 26 = .ok (.ishr, 1) := by decide +kernel
theorem dX0_cutStreets_27 : decode cX0_cutStreets 27 = .ok (.ixor, 1) := by decide +kernel
theorem dX0_cutStreets_28 : decode cX0_cutStreets 28 = .ok (.istore 4, 2) := by decide +kernel
theorem dX0_cutStreets_30 : decode cX0_cutStreets 30 = .ok (.iload_n 2, 1) := by decide +kernel
theorem dX0_cutStreets_31 : decode cX0_cutStreets 31 = .ok (.iload 4, 2) := by decide +kernel
theorem dX0_cutStreets_33 : decode cX0_cutStreets 33 = .ok (.iconst 1, 1) := by decide +kernel
theorem dX0_cutStreets_34 : decode cX0_cutStreets 34 = .ok (.iand, 1) := by decide +kernel
theorem dX0_cutStreets_35 : decode cX0_cutStreets 35 = .ok (.iconst 1, 1) := by decide +kernel
theorem dX0_cutStreets_36 : decode cX0_cutStreets 36 = .ok (.if_icmp .ne 15, 3) := by decide +kernel
theorem dX0_cutStreets_39 : decode cX0_cutStreets 39 = .ok (.aload_n 0, 1) := by decide +kernel
theorem dX0_cutStreets_40 : decode cX0_cutStreets 40 = .ok (.iload_n 3, 1) := by decide +kernel
theorem dX0_cutStreets_41 : decode cX0_cutStreets 41 = .ok (.invokevirtual 50, 3) := by decide +kernel
theorem dX0_cutStreets_44 : decode cX0_cutStreets 44 = .ok (.ifCond .le 7, 3) := by decide +kernel
theorem dX0_cutStreets_47 : decode cX0_cutStreets 47 = .ok (.iconst 1, 1) := by decide +kernel
theorem dX0_cutStreets_48 : decode cX0_cutStreets 48 = .ok (.goto 4, 3) := by decide +kernel
theorem dX0_cutStreets_51 : decode cX0_cutStreets 51 = .ok (.iconst 0, 1) := by decide +kernel
theorem dX0_cutStreets_52 : decode cX0_cutStreets 52 = .ok (.iadd, 1) := by decide +kernel
theorem dX0_cutStreets_53 : decode cX0_cutStreets 53 = .ok (.istore_n 2, 1) := by decide +kernel
theorem dX0_cutStreets_54 : decode cX0_cutStreets 54 = .ok (.iinc 3 1, 3) := by decide +kernel
theorem dX0_cutStreets_57 : decode cX0_cutStreets 57 = .ok (.goto (-48), 3) := by decide +kernel
theorem dX0_cutStreets_60 : decode cX0_cutStreets 60 = .ok (.iload_n 2, 1) := by decide +kernel
theorem dX0_cutStreets_61 : decode cX0_cutStreets 61 = .ok (.ireturn, 1) := by decide +kernel
end
section
set_option maxRecDepth 100000
theorem dX1_init_0 : decode cX1_init 0 = .ok (.aload_n 0, 1) := by decide +kernel
theorem dX1_init_1 : decode cX1_init 1 = .ok (.invokespecial 1, 3) := by decide +kernel
theorem dX1_init_4 : decode cX1_init 4 = .ok (.aload_n 0, 1) := by decide +kernel
theorem dX1_init_5 : decode cX1_init 5 = .ok (.bipush 17, 2) := by decide +kernel
theorem dX1_init_7 : decode cX1_init 7 = .ok (.newarray .int, 2) := by decide +kernel
theorem dX1_init_9 : decode cX1_init 9 = .ok (.putfield 7, 3) := by decide +kernel
theorem dX1_init_12 : decode cX1_init 12 = .ok (.aload_n 0, 1) := by decide +kernel
theorem dX1_init_13 : decode cX1_init 13 = .ok (.bipush 17, 2) := by decide +kernel
theorem dX1_init_15 : decode cX1_init 15 = .ok (.newarray .boolean, 2) := by decide +kernel
theorem dX1_init_17 : decode cX1_init 17 = .ok (.putfield 13, 3) := by decide +kernel
theorem dX1_init_20 : decode cX1_init 20 = .ok (.aload_n 0, 1) := by decide +kernel
theorem dX1_init_21 : decode cX1_init 21 = .ok (.bipush 17, 2) := by decide +kernel
theorem dX1_init_23 : decode cX1_init 23 = .ok (.newarray .int, 2) := by decide +kernel
theorem dX1_init_25 : decode cX1_init 25 = .ok (.putfield 17, 3) := by decide +kernel
theorem dX1_init_28 : decode cX1_init 28 = .ok (.aload_n 0, 1) := by decide +kernel
theorem dX1_init_29 : decode cX1_init 29 = .ok (.bipush 17, 2) := by decide +kernel
theorem dX1_init_31 : decode cX1_init 31 = .ok (.newarray .int, 2) := by decide +kernel
theorem dX1_init_33 : decode cX1_init 33 = .ok (.putfield 20, 3) := by decide +kernel
theorem dX1_init_36 : decode cX1_init 36 = .ok (.iconst 0, 1) := by decide +kernel
theorem dX1_init_37 : decode cX1_init 37 = .ok (.istore_n 1, 1) := by decide +kernel
theorem dX1_init_38 : decode cX1_init 38 = .ok (.iload_n 1, 1) := by decide +kernel
theorem dX1_init_39 : decode cX1_init 39 = .ok (.bipush 9, 2) := by decide +kernel
theorem dX1_init_41 : decode cX1_init 41 = .ok (.if_icmp .ge 38, 3) := by decide +kernel
theorem dX1_init_44 : decode cX1_init 44 = .ok (.aload_n 0, 1) := by decide +kernel
theorem dX1_init_45 : decode cX1_init 45 = .ok (.getfield 17, 3) := by decide +kernel
theorem dX1_init_48 : decode cX1_init 48 = .ok (.iload_n 1, 1) := by decide +kernel
theorem dX1_init_49 : decode cX1_init 49 = .ok (.iconst 4, 1) := by decide +kernel
theorem dX1_init_50 : decode cX1_init 50 = .ok (.iload_n 1, 1) := by decide +kernel
theorem dX1_init_51 : decode cX1_init 51 = .ok (.iconst 3, 1) := by decide +kernel
theorem dX1_init_52 : decode cX1_init 52 = .ok (.idiv, 1) := by decide +kernel
theorem dX1_init_53 : decode cX1_init 53 = .ok (.imul, 1) := by decide +kernel
theorem dX1_init_54 : decode cX1_init 54 = .ok (.iload_n 1, 1) := by decide +kernel
theorem dX1_init_55 : decode cX1_init 55 = .ok (.iconst 3, 1) := by decide +kernel
theorem dX1_init_56 : decode cX1_init 56 = .ok (.irem, 1) := by decide +kernel
theorem dX1_init_57 : decode cX1_init 57 = .ok (.iadd, 1) := by decide +kernel
theorem dX1_init_58 : decode cX1_init 58 = .ok (.iastore, 1) := by decide +kernel
theorem dX1_init_59 : decode cX1_init 59 = .ok (.aload_n 0, 1) := by decide +kernel
theorem dX1_init_60 : decode cX1_init 60 = .ok (.getfield 20, 3) := by decide +kernel
theorem dX1_init_63 : decode cX1_init 63 = .ok (.iload_n 1, 1) := by decide +kernel
theorem dX1_init_64 : decode cX1_init 64 = .ok (.aload_n 0, 1) := by decide +kernel
theorem dX1_init_65 : decode cX1_init 65 = .ok (.getfield 17, 3) := by decide +kernel
theorem dX1_init_68 : decode cX1_init 68 = .ok (.iload_n 1, 1) := by decide +kernel
theorem dX1_init_69 : decode cX1_init 69 = .ok (.iaload, 1) := by decide +kernel
theorem dX1_init_70 : decode cX1_init 70 = .ok (.iconst 1, 1) := by decide +kernel
theorem dX1_init_71 : decode cX1_init 71 = .ok (.iadd, 1) := by decide +kernel
theorem dX1_init_72 : decode cX1_init 72 = .ok (.iastore, 1) := by decide +kernel
theorem dX1_init_73 : decode cX1_init 73 = .ok (.iinc 1 1, 3) := by decide +kernel
theorem dX1_init_76 : decode cX1_init 76 = .ok (.goto (-38), 3) := by decide +kernel
theorem dX1_init_79 : decode cX1_init 79 = .ok (.bipush 9, 2) := by decide +kernel
theorem dX1_init_81 : decode cX1_init 81 = .ok (.istore_n 1, 1) := by decide +kernel
theorem dX1_init_82 : decode cX1_init 82 = .ok (.iload_n 1, 1) := by decide +kernel
theorem dX1_init_83 : decode cX1_init 83 = .ok (.bipush 17, 2) := by decide +kernel
theorem dX1_init_85 : decode cX1_init 85 = .ok (.if_icmp .ge 28, 3) := by decide +kernel
theorem dX1_init_88 : decode cX1_init 88 = .ok (.aload_n 0, 1) := by decide +kernel
theorem dX1_init_89 : decode cX1_init 89 = .ok (.getfield 17, 3) := by decide +kernel
theorem dX1_init_92 : decode cX1_init 92 = .ok (.iload_n 1, 1) := by decide +kernel
theorem dX1_init_93 : decode cX1_init 93 = .ok (.iload_n 1, 1) := by decide +kernel
theorem dX1_init_94 : decode cX1_init 94 = .ok (.bipush 9, 2) := by decide +kernel
theorem dX1_init_96 : decode cX1_init 96 = .ok (.isub, 1) := by decide +kernel
theorem dX1_init_97 : decode cX1_init 97 = .ok (.iastore, 1) := by decide +kernel
theorem dX1_init_98 : decode cX1_init 98 = .ok (.aload_n 0, 1) := by decide +kernel
theorem dX1_init_99 : decode cX1_init 99 = .ok (.getfield 20, 3) := by decide +kernel
theorem dX1_init_102 : decode cX1_init 102 = .ok (.iload_n 1, 1) := by decide +kernel
theorem dX1_init_103 : decode cX1_init 103 = .ok (.iload_n 1, 1) := by decide +kernel
theorem dX1_init_104 : decode cX1_init 104 = .ok (.iconst 5, 1) := by decide +kernel
theorem dX1_init_105 : decode cX1_init 105 = .ok (.isub, 1) := by decide +kernel
theorem dX1_init_106 : decode cX1_init 106 = .ok (.iastore, 1) := by decide +kernel
theorem dX1_init_107 : decode cX1_init 107 = .ok (.iinc 1 1, 3) := by decide +kernel
theorem dX1_init_110 : decode cX1_init 110 = .ok (.goto (-28), 3) := by decide +kernel
theorem dX1_init_113 : decode cX1_init 113 = .ok (.return_, 1) := by decide +kernel
theorem dX1_set_0 : decode cX1_set 0 = .ok (.aload_n 0, 1) := by decide +kernel
theorem dX1_set_1 : decode cX1_set 1 = .ok (.iload_n 1, 1) := by decide +kernel
theorem dX1_set_2 : decode cX1_set 2 = .ok (.invokevirtual 23, 3) := by decide +kernel
theorem dX1_set_5 : decode cX1_set 5 = .ok (.ifCond .eq 5, 3) := by decide +kernel
theorem dX1_set_8 : decode cX1_set 8 = .ok (.iconst (-1), 1) := by decide +kernel
theorem dX1_set_9 : decode cX1_set 9 = .ok (.ireturn, 1) := by decide +kernel
theorem dX1_set_10 : decode cX1_set 10 = .ok (.iload_n 2, 1) := by decide +kernel
theorem dX1_set_11 : decode cX1_set 11 = .ok (.ifCond .lt 9, 3) := by decide +kernel
theorem dX1_set_14 : decode cX1_set 14 = .ok (.iload_n 2, 1) := by decide +kernel
theorem dX1_set_15 : decode cX1_set 15 = .ok (.bipush 20, 2) := by decide +kernel
theorem dX1_set_17 : decode cX1_set 17 = .ok (.if_icmp .le 6, 3) := by decide +kernel
theorem dX1_set_20 : decode cX1_set 20 = .ok (.bipush (-2), 2) := by decide +kernel
theorem dX1_set_22 : decode cX1_set 22 = .ok (.ireturn, 1) := by decide +kernel
theorem dX1_set_23 : decode cX1_set 23 = .ok (.aload_n 0, 1) := by decide +kernel
theorem dX1_set_24 : decode cX1_set 24 = .ok (.getfield 7, 3) := by decide +kernel
theorem dX1_set_27 : decode cX1_set 27 = .ok (.iload_n 1, 1) := by decide +kernel
theorem dX1_set_28 : decode cX1_set 28 = .ok (.iaload, 1) := by decide +kernel
theorem dX1_set_29 : decode cX1_set 29 = .ok (.istore_n 3, 1) := by decide +kernel
theorem dX1_set_30 : decode cX1_set 30 = .ok (.aload_n 0, 1) := by decide +kernel
theorem dX1_set_31 : decode cX1_set 31 = .ok (.getfield 7, 3) := by decide +kernel
theorem dX1_set_34 : decode cX1_set 34 = .ok (.iload_n 1, 1) := by decide +kernel
theorem dX1_set_35 : decode cX1_set 35 = .ok (.iload_n 2, 1) := by decide +kernel
theorem dX1_set_36 : decode cX1_set 36 = .ok (.iastore, 1) := by decide +kernel
theorem dX1_set_37 : decode cX1_set 37 = .ok (.iload_n 3, 1) := by decide +kernel
theorem dX1_set_38 : decode cX1_set 38 = .ok (.ireturn, 1) := by decide +kernel
theorem dX1_badStreet_0 : decode cX1_badStreet 0 = .ok (.iload_n 1, 1) := by decide +kernel
theorem dX1_badStreet_1 : decode cX1_badStreet 1 = .ok (.ifCond .lt 9, 3) := by decide +kernel
theorem dX1_badStreet_4 : decode cX1_badStreet 4 = .ok (.iload_n 1, 1) := by decide +kernel
theorem dX1_badStreet_5 : decode cX1_badStreet 5 = .ok (.bipush 16, 2) := by decide +kernel
theorem dX1_badStreet_7 : decode cX1_badStreet 7 = .ok (.if_icmp .le 7, 3) := by decide +kernel
theorem dX1_badStreet_10 : decode cX1_badStreet 10 = .ok (.iconst 1, 1) := by decide +kernel
theorem dX1_badStreet_11 : decode cX1_badStreet 11 = .ok (.goto 4, 3) := by decide +kernel
theorem dX1_badStreet_14 : decode cX1_badStreet 14 = .ok (.iconst 0, 1) := by decide +kernel
theorem dX1_badStreet_15 : decode cX1_badStreet 15 = .ok (.ireturn, 1) := by decide +kernel
theorem dX1_sow_0 : decode cX1_sow 0 = .ok (.iload_n 1, 1) := by decide +kernel
theorem dX1_sow_1 : decode cX1_sow 1 = .ok (.ifCond .lt 9, 3) := by decide +kernel
theorem dX1_sow_4 : decode cX1_sow 4 = .ok (.iload_n 1, 1) := by decide +kernel
theorem dX1_sow_5 : decode cX1_sow 5 = .ok (.bipush 20, 2) := by decide +kernel
theorem dX1_sow_7 : decode cX1_sow 7 = .ok (.if_icmp .le 5, 3) := by decide +kernel
theorem dX1_sow_10 : decode cX1_sow 10 = .ok (.iconst (-1), 1) := by decide +kernel
theorem dX1_sow_11 : decode cX1_sow 11 = .ok (.ireturn, 1) := by decide +kernel
theorem dX1_sow_12 : decode cX1_sow 12 = .ok (.iload_n 2, 1) := by decide +kernel
theorem dX1_sow_13 : decode cX1_sow 13 = .ok (.ifCond .lt 9, 3) := by decide +kernel
theorem dX1_sow_16 : decode cX1_sow 16 = .ok (.iload_n 2, 1) := by decide +kernel
theorem dX1_sow_17 : decode cX1_sow 17 = .ok (.bipush 20, 2) := by decide +kernel
theorem dX1_sow_19 : decode cX1_sow 19 = .ok (.if_icmp .le 6, 3) := by decide +kernel
theorem dX1_sow_22 : decode cX1_sow 22 = .ok (.bipush (-2), 2) := by decide +kernel
theorem dX1_sow_24 : decode cX1_sow 24 = .ok (.ireturn, 1) := by decide +kernel
theorem dX1_sow_25 : decode cX1_sow 25 = .ok (.iconst 0, 1) := by decide +kernel
theorem dX1_sow_26 : decode cX1_sow 26 = .ok (.istore_n 3, 1) := by decide +kernel
theorem dX1_sow_27 : decode cX1_sow 27 = .ok (.iconst 0, 1) := by decide +kernel
theorem dX1_sow_28 : decode cX1_sow 28 = .ok (.istore 4, 2) := by decide +kernel
theorem dX1_sow_30 : decode cX1_sow 30 = .ok (.iload 4, 2) := by decide +kernel
theorem dX1_sow_32 : decode cX1_sow 32 = .ok (.bipush 17, 2) := by decide +kernel
theorem dX1_sow_34 : decode cX1_sow 34 = .ok (.if_icmp .ge 44, 3) := by decide +kernel
theorem dX1_sow_37 : decode cX1_sow 37 = .ok (.aload_n 0, 1) := by decide +kernel
theorem dX1_sow_38 : decode cX1_sow 38 = .ok (.getfield 7, 3) := by decide +kernel
theorem dX1_sow_41 : decode cX1_sow 41 = .ok (.iload 4, 2) := by decide +kernel
theorem dX1_sow_43 : decode cX1_sow 43 = .ok (.iload_n 1, 1) := by decide +kernel
theorem dX1_sow_44 : decode cX1_sow 44 = .ok (.bipush 7, 2) := by decide +kernel
theorem dX1_sow_46 : decode cX1_sow 46 = .ok (.iload 4, 2) := by decide +kernel
theorem dX1_sow_48 : decode cX1_sow 48 = .ok (.imul, 1) := by decide +kernel
theorem dX1_sow_49 : decode cX1_sow 49 = .ok (.iadd, 1) := by decide +kernel
theorem dX1_sow_50 : decode cX1_sow 50 = .ok (.iload 4, 2) := by decide +kernel
theorem dX1_sow_52 : decode cX1_sow 52 = .ok (.iload 4, 2) := by decide +kernel
theorem dX1_sow_54 : decode cX1_sow 54 = .ok (.imul, 1) := by decide +kernel
theorem dX1_sow_55 : decode cX1_sow 55 = .ok (.iload_n 2, 1) := by decide +kernel
theorem dX1_sow_56 : decode cX1_sow 56 = .ok (.imul, 1) := by decide +kernel
theorem dX1_sow_57 : decode cX1_sow 57 = .ok (.iadd, 1) := by decide +kernel
theorem dX1_sow_58 : decode cX1_sow 58 = .ok (.bipush 21, 2) := by decide +kernel
theorem dX1_sow_60 : decode cX1_sow 60 = .ok (.irem, 1) := by decide +kernel
theorem dX1_sow_61 : decode cX1_sow 61 = .ok (.iastore, 1) := by decide +kernel
theorem dX1_sow_62 : decode cX1_sow 62 = .ok (.iload_n 3, 1) := by decide +kernel
theorem dX1_sow_63 : decode cX1_sow 63 = .ok (.aload_n 0, 1) := by decide +kernel
theorem dX1_sow_64 : decode cX1_sow 64 = .ok (.getfield 7, 3) := by decide +kernel
theorem dX1_sow_67 : decode cX1_sow 67 = .ok (.iload 4, 2) := by decide +kernel
theorem dX1_sow_69 : decode cX1_sow 69 = .ok (.iaload, 1) := by decide +kernel
theorem dX1_sow_70 : decode cX1_sow 70 = .ok (.iadd, 1) := by decide +kernel
theorem dX1_sow_71 : decode cX1_sow 71 = .ok (.istore_n 3, 1) := by decide +kernel
theorem dX1_sow_72 : decode cX1_sow 72 = .ok (.iinc 4 1, 3) := by decide +kernel
theorem dX1_sow_75 : decode cX1_sow 75 = .ok (.goto (-45), 3) := by decide +kernel
theorem dX1_sow_78 : decode cX1_sow 78 = .ok (.iload_n 3, 1) := by decide +kernel
theorem dX1_sow_79 : decode cX1_sow 79 = .ok (.ireturn, 1) := by decide +kernel
theorem dX1_close_0 : decode cX1_close 0 = .ok (.aload_n 0, 1) := by decide +kernel
theorem dX1_close_1 : decode cX1_close 1 = .ok (.iload_n 1, 1) := by decide +kernel
theorem dX1_close_2 : decode cX1_close 2 = .ok (.invokevirtual 23, 3) := by decide +kernel
theorem dX1_close_5 : decode cX1_close 5 = .ok (.ifCond .eq 5, 3) := by decide +kernel
theorem dX1_close_8 : decode cX1_close 8 = .ok (.iconst (-1), 1) := by decide +kernel
theorem dX1_close_9 : decode cX1_close 9 = .ok (.ireturn, 1) := by decide +kernel
theorem dX1_close_10 : decode cX1_close 10 = .ok (.aload_n 0, 1) := by decide +kernel
theorem dX1_close_11 : decode cX1_close 11 = .ok (.getfield 13, 3) := by decide +kernel
theorem dX1_close_14 : decode cX1_close 14 = .ok (.iload_n 1, 1) := by decide +kernel
theorem dX1_close_15 : decode cX1_close 15 = .ok (.baload, 1) := by decide +kernel
theorem dX1_close_16 : decode cX1_close 16 = .ok (.ifCond .eq 7, 3) := by decide +kernel
theorem dX1_close_19 : decode cX1_close 19 = .ok (.iconst 1, 1) := by decide +kernel
theorem dX1_close_20 : decode cX1_close 20 = .ok (.goto 4, 3) := by decide +kernel
theorem dX1_close_23 : decode cX1_close 23 = .ok (.iconst 0, 1) := by decide +kernel
theorem dX1_close_24 : decode cX1_close 24 = .ok (.istore_n 3, 1) := by decide +kernel
theorem dX1_close_25 : decode cX1_close 25 = .ok (.aload_n 0, 1) := by decide +kernel
theorem dX1_close_26 : decode cX1_close 26 = .ok (.getfield 13, 3) := by decide +kernel
theorem dX1_close_29 : decode cX1_close 29 = .ok (.iload_n 1, 1) := by decide +kernel
theorem dX1_close_30 : decode cX1_close 30 = .ok (.iload_n 2, 1) := by decide +kernel
theorem dX1_close_31 : decode cX1_close 31 = .ok (.ifCond .eq 7, 3) := by decide +kernel
theorem dX1_close_34 : decode cX1_close 34 = .ok (.iconst 1, 1) := by decide +kernel
theorem dX1_close_35 : decode cX1_close 35 = .ok (.goto 4, 3) := by decide +kernel
theorem dX1_close_38 : decode cX1_close 38 = .ok (.iconst 0, 1) := by decide +kernel
theorem dX1_close_39 : decode cX1_close 39 = .ok (.bastore, 1) := by decide +kernel
theorem dX1_close_40 : decode cX1_close 40 = .ok (.iload_n 3, 1) := by decide +kernel
theorem dX1_close_41 : decode cX1_close 41 = .ok (.ireturn, 1) := by decide +kernel
theorem dX1_capacity_0 : decode cX1_capacity 0 = .ok (.aload_n 0, 1) := by decide +kernel
theorem dX1_capacity_1 : decode cX1_capacity 1 = .ok (.iload_n 1, 1) := by decide +kernel
theorem dX1_capacity_2 : decode cX1_capacity 2 = .ok (.invokevirtual 23, 3) := by decide +kernel
theorem dX1_capacity_5 : decode cX1_capacity 5 = .ok (.ifCond .eq 7, 3) := by decide +kernel
theorem dX1_capacity_8 : decode cX1_capacity 8 = .ok (.iconst (-1), 1) := by decide +kernel
theorem dX1_capacity_9 : decode cX1_capacity 9 = .ok (.goto 9, 3) := by decide +kernel
theorem dX1_capacity_12 : decode cX1_capacity 12 = .ok (.aload_n 0, 1) := by decide +kernel
theorem dX1_capacity_13 : decode cX1_capacity 13 = .ok (.getfield 7, 3) := by decide +kernel
theorem dX1_capacity_16 : decode cX1_capacity 16 = .ok (.iload_n 1, 1) := by decide +kernel
theorem dX1_capacity_17 : decode cX1_capacity 17 = .ok (.iaload, 1) := by decide +kernel
theorem dX1_capacity_18 : decode cX1_capacity 18 = .ok (.ireturn, 1) := by decide +kernel
theorem dX1_between_0 : decode cX1_between 0 = .ok (.aload_n 0, 1) := by decide +kernel
theorem dX1_between_1 : decode cX1_between 1 = .ok (.iload_n 1, 1) := by decide +kernel
theorem dX1_between_2 : decode cX1_between 2 = .ok (.invokevirtual 27, 3) := by decide +kernel
theorem dX1_between_5 : decode cX1_between 5 = .ok (.ifCond .ne 11, 3) := by decide +kernel
theorem dX1_between_8 : decode cX1_between 8 = .ok (.aload_n 0, 1) := by decide +kernel
theorem dX1_between_9 : decode cX1_between 9 = .ok (.iload_n 2, 1) := by decide +kernel
theorem dX1_between_10 : decode cX1_between 10 = .ok (.invokevirtual 27, 3) := by decide +kernel
theorem dX1_between_13 : decode cX1_between 13 = .ok (.ifCond .eq 5, 3) := by decide +kernel
theorem dX1_between_16 : decode cX1_between 16 = .ok (.iconst (-1), 1) := by decide +kernel
theorem dX1_between_17 : decode cX1_between 17 = .ok (.ireturn, 1) := by decide +kernel
theorem dX1_between_18 : decode cX1_between 18 = .ok (.iconst 0, 1) := by decide +kernel
theorem dX1_between_19 : decode cX1_between 19 = .ok (.istore_n 3, 1) := by decide +kernel
theorem dX1_between_20 : decode cX1_between 20 = .ok (.iload_n 3, 1) := by decide +kernel
theorem dX1_between_21 : decode cX1_between 21 = .ok (.bipush 17, 2) := by decide +kernel
theorem dX1_between_23 : decode cX1_between 23 = .ok (.if_icmp .ge 51, 3) := by decide +kernel
theorem dX1_between_26 : decode cX1_between 26 = .ok (.aload_n 0, 1) := by decide +kernel
theorem dX1_between_27 : decode cX1_between 27 = .ok (.getfield 17, 3) := by decide +kernel
theorem dX1_between_30 : decode cX1_between 30 = .ok (.iload_n 3, 1) := by decide +kernel
theorem dX1_between_31 : decode cX1_between 31 = .ok (.iaload, 1) := by decide +kernel
theorem dX1_between_32 : decode cX1_between 32 = .ok (.iload_n 1, 1) := by decide +kernel
theorem dX1_between_33 : decode cX1_between 33 = .ok (.if_icmp .ne 13, 3) := by decide +kernel
theorem dX1_between_36 : decode cX1_between 36 = .ok (.aload_n 0, 1) := by decide +kernel
theorem dX1_between_37 : decode cX1_between 37 = .ok (.getfield 20, 3) := by decide +kernel
theorem dX1_between_40 : decode cX1_between 40 = .ok (.iload_n 3, 1) := by decide +kernel
theorem dX1_between_41 : decode cX1_between 41 = .ok (.iaload, 1) := by decide +kernel
theorem dX1_between_42 : decode cX1_between 42 = .ok (.iload_n 2, 1) := by decide +kernel
theorem dX1_between_43 : decode cX1_between 43 = .ok (.if_icmp .eq 23, 3) := by decide +kernel
theorem dX1_between_46 : decode cX1_between 46 = .ok (.aload_n 0, 1) := by decide +kernel
theorem dX1_between_47 : decode cX1_between 47 = .ok (.getfield 17, 3) := by decide +kernel
theorem dX1_between_50 : decode cX1_between 50 = .ok (.iload_n 3, 1) := by decide +kernel
theorem dX1_between_51 : decode cX1_between 51 = .ok (.iaload, 1) := by decide +kernel
theorem dX1_between_52 : decode cX1_between 52 = .ok (.iload_n 2, 1) := by decide +kernel
theorem dX1_between_53 : decode cX1_between 53 = .ok (.if_icmp .ne 15, 3) := by decide +kernel
theorem dX1_between_56 : decode cX1_between 56 = .ok (.aload_n 0, 1) := by decide +kernel
theorem dX1_between_57 : decode cX1_between 57 = .ok (.getfield 20, 3) := by decide +kernel
theorem dX1_between_60 : decode cX1_between 60 = .ok (.iload_n 3, 1) := by decide +kernel
theorem dX1_between_61 : decode cX1_between 61 = .ok (.iaload, 1) := by decide +kernel
theorem dX1_between_62 : decode cX1_between 62 = .ok (.iload_n 1, 1) := by decide +kernel
theorem dX1_between_63 : decode cX1_between 63 = .ok (.if_icmp .ne 5, 3) := by decide +kernel
theorem dX1_between_66 : decode cX1_between 66 = .ok (.iload_n 3, 1) := by decide +kernel
theorem dX1_between_67 : decode cX1_between 67 = .ok (.ireturn, 1) := by decide +kernel
theorem dX1_between_68 : decode cX1_between 68 = .ok (.iinc 3 1, 3) := by decide +kernel
theorem dX1_between_71 : decode cX1_between 71 = .ok (.goto (-51), 3) := by decide +kernel
theorem dX1_between_74 : decode cX1_between 74 = .ok (.bipush (-2), 2) := by decide +kernel
theorem dX1_between_76 : decode cX1_between 76 = .ok (.ireturn, 1) := by decide +kernel
theorem dX1_bad_0 : decode cX1_bad 0 = .ok (.iload_n 1, 1) := by decide +kernel
theorem dX1_bad_1 : decode cX1_bad 1 = .ok (.ifCond .lt 9, 3) := by decide +kernel
theorem dX1_bad_4 : decode cX1_bad 4 = .ok (.iload_n 1, 1) := by decide +kernel
theorem dX1_bad_5 : decode cX1_bad 5 = .ok (.bipush 11, 2) := by decide +kernel
theorem dX1_bad_7 : decode cX1_bad 7 = .ok (.if_icmp .le 7, 3) := by decide +kernel
theorem dX1_bad_10 : decode cX1_bad 10 = .ok (.iconst 1, 1) := by decide +kernel
theorem dX1_bad_11 : decode cX1_bad 11 = .ok (.goto 4, 3) := by decide +kernel
theorem dX1_bad_14 : decode cX1_bad 14 = .ok (.iconst 0, 1) := by decide +kernel
theorem dX1_bad_15 : decode cX1_bad 15 = .ok (.ireturn, 1) := by decide +kernel
theorem dX1_flow_0 : decode cX1_flow 0 = .ok (.aload_n 0, 1) := by decide +kernel
theorem dX1_flow_1 : decode cX1_flow 1 = .ok (.iconst 0, 1) := by decide +kernel
theorem dX1_flow_2 : decode cX1_flow 2 = .ok (.iconst 1, 1) := by decide +kernel
theorem dX1_flow_3 : decode cX1_flow 3 = .ok (.invokevirtual 37, 3) := by decide +kernel
theorem dX1_flow_6 : decode cX1_flow 6 = .ok (.ireturn, 1) := by decide +kernel
theorem dX1_least_0 : decode cX1_least 0 = .ok (.iconst (-1), 1) := by decide +kernel
theorem dX1_least_1 : decode cX1_least 1 = .ok (.istore_n 3, 1) := by decide +kernel
theorem dX1_least_2 : decode cX1_least 2 = .ok (.iconst 1, 1) := by decide +kernel
theorem dX1_least_3 : decode cX1_least 3 = .ok (.istore 4, 2) := by decide +kernel
theorem dX1_least_5 : decode cX1_least 5 = .ok (.iload 4, 2) := by decide +kernel
theorem dX1_least_7 : decode cX1_least 7 = .ok (.sipush 2048, 3) := by decide +kernel
theorem dX1_least_10 : decode cX1_least 10 = .ok (.if_icmp .ge 40, 3) := by decide +kernel
theorem dX1_least_13 : decode cX1_least 13 = .ok (.iload 4, 2) := by decide +kernel
theorem dX1_least_15 : decode cX1_least 15 = .ok (.iload_n 1, 1) := by decide +kernel
theorem dX1_least_16 : decode cX1_least 16 = .ok (.ishr, 1) := by decide +kernel
theorem dX1_least_17 : decode cX1_least 17 = .ok (.iconst 1, 1) := by decide +kernel
theorem dX1_least_18 : decode cX1_least 18 = .ok (.iand, 1) := by decide +kernel
theorem dX1_least_19 : decode cX1_least 19 = .ok (.iload_n 2, 1) := by decide +kernel
theorem dX1_least_20 : decode cX1_least 20 = .ok (.if_icmp .ne 24, 3) := by decide +kernel
theorem dX1_least_23 : decode cX1_least 23 = .ok (.aload_n 0, 1) := by decide +kernel
theorem dX1_least_24 : decode cX1_least 24 = .ok (.iload 4, 2) := by decide +kernel
theorem dX1_least_26 : decode cX1_least 26 = .ok (.invokevirtual 34, 3) := by decide +kernel
theorem dX1_least_29 : decode cX1_least 29 = .ok (.istore 5, 2) := by decide +kernel
theorem dX1_least_31 : decode cX1_least 31 = .ok (.iload_n 3, 1) := by decide +kernel
theorem dX1_least_32 : decode cX1_least 32 = .ok (.ifCond .lt 9, 3) := by decide +kernel
theorem dX1_least_35 : decode cX1_least 35 = .ok (.iload 5, 2) := by decide +kernel
theorem dX1_least_37 : decode cX1_least 37 = .ok (.iload_n 3, 1) := by decide +kernel
theorem dX1_least_38 : decode cX1_least 38 = .ok (.if_icmp .ge 6, 3) := by decide +kernel
theorem dX1_least_41 : decode cX1_least 41 = .ok (.iload 5, 2) := by decide +kernel
theorem dX1_least_43 : decode cX1_least 43 = .ok (.istore_n 3, 1) := by decide +kernel
theorem dX1_least_44 : decode cX1_least 44 = .ok (.iinc 4 2, 3) := by decide +kernel
theorem dX1_least_47 : decode cX1_least 47 = .ok (.goto (-42), 3) := by decide +kernel
theorem dX1_least_50 : decode cX1_least 50 = .ok (.iload_n 3, 1) := by decide +kernel
theorem dX1_least_51 : decode cX1_least 51 = .ok (.ireturn, 1) := by decide +kernel
theorem dX1_weigh_0 : decode cX1_weigh 0 = .ok (.iconst 0, 1) := by decide +kernel
theorem dX1_weigh_1 : decode cX1_weigh 1 = .ok (.istore_n 2, 1) := by decide +kernel
theorem dX1_weigh_2 : decode cX1_weigh 2 = .ok (.iconst 0, 1) := by decide +kernel
theorem dX1_weigh_3 : decode cX1_weigh 3 = .ok (.istore_n 3, 1) := by decide +kernel
theorem dX1_weigh_4 : decode cX1_weigh 4 = .ok (.iload_n 3, 1) := by decide +kernel
theorem dX1_weigh_5 : decode cX1_weigh 5 = .ok (.bipush 17, 2) := by decide +kernel
theorem dX1_weigh_7 : decode cX1_weigh 7 = .ok (.if_icmp .ge 40, 3) := by decide +kernel
theorem dX1_weigh_10 : decode cX1_weigh 10 = .ok (.iload_n 1, 1) := by decide +kernel
theorem dX1_weigh_11 : decode cX1_weigh 11 = .ok (.aload_n 0, 1) := by decide +kernel
theorem dX1_weigh_12 : decode cX1_weigh 12 = .ok (.getfield 17, 3) := by decide +kernel
theorem dX1_weigh_15 : decode cX1_weigh 15 = .ok (.iload_n 3, 1) := by decide +kernel
theorem dX1_weigh_16 : decode cX1_weigh 16 = .ok (.iaload, 1) := by decide +kernel
theorem dX1_weigh_17 : decode cX1_weigh 17 = .ok (.ishr, 1) := by decide +kernel
theorem dX1_weigh_18 : decode cX1_weigh 18 = .ok (.iconst 1, 1) := by decide +kernel
theorem dX1_weigh_19 : decode cX1_weigh 19 = .ok (.iand, 1) := by decide +kernel
theorem dX1_weigh_20 : decode cX1_weigh 20 = .ok (.iload_n 1, 1) := by decide +kernel
theorem dX1_weigh_21 : decode cX1_weigh 21 = .ok (.aload_n 0, 1) := by decide +kernel
theorem dX1_weigh_22 : decode cX1_weigh 22 = .ok (.getfield 20, 3) := by decide +kernel
theorem dX1_weigh_25 : decode cX1_weigh 25 = .ok (.iload_n 3, 1) := by decide +kernel
theorem dX1_weigh_26 : decode cX1_weigh 26 = .ok (.iaload, 1) := by decide +kernel
theorem dX1_weigh_27 : decode cX1_weigh 27 = .ok (.ishr, 1) := by decide +kernel
theorem dX1_weigh_28 : decode cX1_weigh 28 = .ok (.iconst 1, 1) := by decide +kernel
theorem dX1_weigh_29 : decode cX1_weigh 29 = .ok (.iand, 1) := by decide +kernel
theorem dX1_weigh_30 : decode cX1_weigh 30 = .ok (.if_icmp .eq 11, 3) := by decide +kernel
theorem dX1_weigh_33 : decode cX1_weigh 33 = .ok (.iload_n 2, 1) := by decide +kernel
theorem dX1_weigh_34 : decode cX1_weigh 34 = .ok (.aload_n 0, 1) := by decide +kernel
theorem dX1_weigh_35 : decode cX1_weigh 35 = .ok (.iload_n 3, 1) := by decide +kernel
theorem dX1_weigh_36 : decode cX1_weigh 36 = .ok (.invokevirtual 30, 3) := by decide +kernel
theorem dX1_weigh_39 : decode cX1_weigh 39 = .ok (.iadd, 1) := by decide +kernel
theorem dX1_weigh_40 : decode cX1_weigh 40 = .ok (.istore_n 2, 1) := by decide +kernel
theorem dX1_weigh_41 : decode cX1_weigh 41 = .ok (.iinc 3 1, 3) := by decide +kernel
theorem dX1_weigh_44 : decode cX1_weigh 44 = .ok (.goto (-40), 3) := by decide +kernel
theorem dX1_weigh_47 : decode cX1_weigh 47 = .ok (.iload_n 2, 1) := by decide +kernel
theorem dX1_weigh_48 : decode cX1_weigh 48 = .ok (.ireturn, 1) := by decide +kernel
theorem dX1_open_0 : decode cX1_open 0 = .ok (.aload_n 0, 1) := by decide +kernel
theorem dX1_open_1 : decode cX1_open 1 = .ok (.getfield 13, 3) := by decide +kernel
theorem dX1_open_4 : decode cX1_open 4 = .ok (.iload_n 1, 1) := by decide +kernel
theorem dX1_open_5 : decode cX1_open 5 = .ok (.baload, 1) := by decide +kernel
theorem dX1_open_6 : decode cX1_open 6 = .ok (.ifCond .eq 7, 3) := by decide +kernel
theorem dX1_open_9 : decode cX1_open 9 = .ok (.iconst 0, 1) := by decide +kernel
theorem dX1_open_10 : decode cX1_open 10 = .ok (.goto 9, 3) := by decide +kernel
theorem dX1_open_13 : decode cX1_open 13 = .ok (.aload_n 0, 1) := by decide +kernel
theorem dX1_open_14 : decode cX1_open 14 = .ok (.getfield 7, 3) := by decide +kernel
theorem dX1_open_17 : decode cX1_open 17 = .ok (.iload_n 1, 1) := by decide +kernel
theorem dX1_open_18 : decode cX1_open 18 = .ok (.iaload, 1) := by decide +kernel
theorem dX1_open_19 : decode cX1_open 19 = .ok (.ireturn, 1) := by decide +kernel
theorem dX1_weight_0 : decode cX1_weight 0 = .ok (.iload_n 1, 1) := by decide +kernel
theorem dX1_weight_1 : decode cX1_weight 1 = .ok (.ifCond .lt 10, 3) := by decide +kernel
theorem dX1_weight_4 : decode cX1_weight 4 = .ok (.iload_n 1, 1) := by decide +kernel
theorem dX1_weight_5 : decode cX1_weight 5 = .ok (.sipush 4095, 3) := by decide +kernel
theorem dX1_weight_8 : decode cX1_weight 8 = .ok (.if_icmp .le 5, 3) := by decide +kernel
theorem dX1_weight_11 : decode cX1_weight 11 = .ok (.iconst (-1), 1) := by decide +kernel
theorem dX1_weight_12 : decode cX1_weight 12 = .ok (.ireturn, 1) := by decide +kernel
theorem dX1_weight_13 : decode cX1_weight 13 = .ok (.iload_n 1, 1) := by decide +kernel
theorem dX1_weight_14 : decode cX1_weight 14 = .ok (.iconst 1, 1) := by decide +kernel
theorem dX1_weight_15 : decode cX1_weight 15 = .ok (.iand, 1) := by decide +kernel
theorem dX1_weight_16 : decode cX1_weight 16 = .ok (.ifCond .ne 6, 3) := by decide +kernel
theorem dX1_weight_19 : decode cX1_weight 19 = .ok (.bipush (-2), 2) := by decide +kernel
theorem dX1_weight_21 : decode cX1_weight 21 = .ok (.ireturn, 1) := by decide +kernel
theorem dX1_weight_22 : decode cX1_weight 22 = .ok (.iload_n 1, 1) := by decide +kernel
theorem dX1_weight_23 : decode cX1_weight 23 = .ok (.sipush 2047, 3) := by decide +kernel
theorem dX1_weight_26 : decode cX1_weight 26 = .ok (.if_icmp .le 6, 3) := by decide +kernel
theorem dX1_weight_29 : decode cX1_weight 29 = .ok (.bipush (-3), 2) := by decide +kernel
theorem dX1_weight_31 : decode cX1_weight 31 = .ok (.ireturn, 1) := by decide +kernel
theorem dX1_weight_32 : decode cX1_weight 32 = .ok (.aload_n 0, 1) := by decide +kernel
theorem dX1_weight_33 : decode cX1_weight 33 = .ok (.iload_n 1, 1) := by decide +kernel
theorem dX1_weight_34 : decode cX1_weight 34 = .ok (.invokevirtual 34, 3) := by decide +kernel
theorem dX1_weight_37 : decode cX1_weight 37 = .ok (.ireturn, 1) := by decide +kernel
theorem dX1_firstCut_0 : decode cX1_firstCut 0 = .ok (.aload_n 0, 1) := by decide +kernel
theorem dX1_firstCut_1 : decode cX1_firstCut 1 = .ok (.invokevirtual 41, 3) := by decide +kernel
theorem dX1_firstCut_4 : decode cX1_firstCut 4 = .ok (.ireturn, 1) := by decide +kernel
theorem dX1_first_0 : decode cX1_first 0 = .ok (.aload_n 0, 1) := by decide +kernel
end
section
set_option maxRecDepth 100000
theorem dX1_first_1 : decode cX1_first 1 = .ok (.iconst 0, 1) := by decide +kernel
theorem dX1_first_2 : decode cX1_first 2 = .ok (.iconst 1, 1) := by decide +kernel
theorem dX1_first_3 : decode cX1_first 3 = .ok (.invokevirtual 37, 3) := by decide +kernel
theorem dX1_first_6 : decode cX1_first 6 = .ok (.istore_n 1, 1) := by decide +kernel
theorem dX1_first_7 : decode cX1_first 7 = .ok (.sipush 2047, 3) := by decide +kernel
theorem dX1_first_10 : decode cX1_first 10 = .ok (.istore_n 2, 1) := by decide +kernel
theorem dX1_first_11 : decode cX1_first 11 = .ok (.iconst 1, 1) := by decide +kernel
theorem dX1_first_12 : decode cX1_first 12 = .ok (.istore_n 3, 1) := by decide +kernel
theorem dX1_first_13 : decode cX1_first 13 = .ok (.iload_n 3, 1) := by decide +kernel
theorem dX1_first_14 : decode cX1_first 14 = .ok (.sipush 2048, 3) := by decide +kernel
theorem dX1_first_17 : decode cX1_first 17 = .ok (.if_icmp .ge 22, 3) := by decide +kernel
theorem dX1_first_20 : decode cX1_first 20 = .ok (.aload_n 0, 1) := by decide +kernel
theorem dX1_first_21 : decode cX1_first 21 = .ok (.iload_n 3, 1) := by decide +kernel
theorem dX1_first_22 : decode cX1_first 22 = .ok (.invokevirtual 34, 3) := by decide +kernel
theorem dX1_first_25 : decode cX1_first 25 = .ok (.iload_n 1, 1) := by decide +kernel
theorem dX1_first_26 : decode cX1_first 26 = .ok (.if_icmp .ne 7, 3) := by decide +kernel
theorem dX1_first_29 : decode cX1_first 29 = .ok (.iload_n 2, 1) := by decide +kernel
theorem dX1_first_30 : decode cX1_first 30 = .ok (.iload_n 3, 1) := by decide +kernel
theorem dX1_first_31 : decode cX1_first 31 = .ok (.iand, 1) := by decide +kernel
theorem dX1_first_32 : decode cX1_first 32 = .ok (.istore_n 2, 1) := by decide +kernel
theorem dX1_first_33 : decode cX1_first 33 = .ok (.iinc 3 2, 3) := by decide +kernel
theorem dX1_first_36 : decode cX1_first 36 = .ok (.goto (-23), 3) := by decide +kernel
theorem dX1_first_39 : decode cX1_first 39 = .ok (.iload_n 2, 1) := by decide +kernel
theorem dX1_first_40 : decode cX1_first 40 = .ok (.ireturn, 1) := by decide +kernel
theorem dX1_lastCut_0 : decode cX1_lastCut 0 = .ok (.aload_n 0, 1) := by decide +kernel
theorem dX1_lastCut_1 : decode cX1_lastCut 1 = .ok (.iconst 0, 1) := by decide +kernel
theorem dX1_lastCut_2 : decode cX1_lastCut 2 = .ok (.iconst 1, 1) := by decide +kernel
theorem dX1_lastCut_3 : decode cX1_lastCut 3 = .ok (.invokevirtual 37, 3) := by decide +kernel
theorem dX1_lastCut_6 : decode cX1_lastCut 6 = .ok (.istore_n 1, 1) := by decide +kernel
theorem dX1_lastCut_7 : decode cX1_lastCut 7 = .ok (.iconst 1, 1) := by decide +kernel
theorem dX1_lastCut_8 : decode cX1_lastCut 8 = .ok (.istore_n 2, 1) := by decide +kernel
theorem dX1_lastCut_9 : decode cX1_lastCut 9 = .ok (.iconst 1, 1) := by decide +kernel
theorem dX1_lastCut_10 : decode cX1_lastCut 10 = .ok (.istore_n 3, 1) := by decide +kernel
theorem dX1_lastCut_11 : decode cX1_lastCut 11 = .ok (.iload_n 3, 1) := by decide +kernel
theorem dX1_lastCut_12 : decode cX1_lastCut 12 = .ok (.sipush 2048, 3) := by decide +kernel
theorem dX1_lastCut_15 : decode cX1_lastCut 15 = .ok (.if_icmp .ge 22, 3) := by decide +kernel
theorem dX1_lastCut_18 : decode cX1_lastCut 18 = .ok (.aload_n 0, 1) := by decide +kernel
theorem dX1_lastCut_19 : decode cX1_lastCut 19 = .ok (.iload_n 3, 1) := by decide +kernel
theorem dX1_lastCut_20 : decode cX1_lastCut 20 = .ok (.invokevirtual 34, 3) := by decide +kernel
theorem dX1_lastCut_23 : decode cX1_lastCut 23 = .ok (.iload_n 1, 1) := by decide +kernel
theorem dX1_lastCut_24 : decode cX1_lastCut 24 = .ok (.if_icmp .ne 7, 3) := by decide +kernel
theorem dX1_lastCut_27 : decode cX1_lastCut 27 = .ok (.iload_n 2, 1) := by decide +kernel
theorem dX1_lastCut_28 : decode cX1_lastCut 28 = .ok (.iload_n 3, 1) := by decide +kernel
theorem dX1_lastCut_29 : decode cX1_lastCut 29 = .ok (.ior, 1) := by decide +kernel
theorem dX1_lastCut_30 : decode cX1_lastCut 30 = .ok (.istore_n 2, 1) := by decide +kernel
theorem dX1_lastCut_31 : decode cX1_lastCut 31 = .ok (.iinc 3 2, 3) := by decide +kernel
theorem dX1_lastCut_34 : decode cX1_lastCut 34 = .ok (.goto (-23), 3) := by decide +kernel
theorem dX1_lastCut_37 : decode cX1_lastCut 37 = .ok (.iload_n 2, 1) := by decide +kernel
theorem dX1_lastCut_38 : decode cX1_lastCut 38 = .ok (.ireturn, 1) := by decide +kernel
theorem dX1_leastWith_0 : decode cX1_leastWith 0 = .ok (.aload_n 0, 1) := by decide +kernel
theorem dX1_leastWith_1 : decode cX1_leastWith 1 = .ok (.iload_n 1, 1) := by decide +kernel
theorem dX1_leastWith_2 : decode cX1_leastWith 2 = .ok (.invokevirtual 27, 3) := by decide +kernel
theorem dX1_leastWith_5 : decode cX1_leastWith 5 = .ok (.ifCond .eq 5, 3) := by decide +kernel
theorem dX1_leastWith_8 : decode cX1_leastWith 8 = .ok (.iconst (-1), 1) := by decide +kernel
theorem dX1_leastWith_9 : decode cX1_leastWith 9 = .ok (.ireturn, 1) := by decide +kernel
theorem dX1_leastWith_10 : decode cX1_leastWith 10 = .ok (.iload_n 1, 1) := by decide +kernel
theorem dX1_leastWith_11 : decode cX1_leastWith 11 = .ok (.bipush 11, 2) := by decide +kernel
theorem dX1_leastWith_13 : decode cX1_leastWith 13 = .ok (.if_icmp .ne 8, 3) := by decide +kernel
theorem dX1_leastWith_16 : decode cX1_leastWith 16 = .ok (.bipush (-2), 2) := by decide +kernel
theorem dX1_leastWith_18 : decode cX1_leastWith 18 = .ok (.goto 9, 3) := by decide +kernel
theorem dX1_leastWith_21 : decode cX1_leastWith 21 = .ok (.aload_n 0, 1) := by decide +kernel
theorem dX1_leastWith_22 : decode cX1_leastWith 22 = .ok (.iload_n 1, 1) := by decide +kernel
theorem dX1_leastWith_23 : decode cX1_leastWith 23 = .ok (.iconst 1, 1) := by decide +kernel
theorem dX1_leastWith_24 : decode cX1_leastWith 24 = .ok (.invokevirtual 37, 3) := by decide +kernel
theorem dX1_leastWith_27 : decode cX1_leastWith 27 = .ok (.ireturn, 1) := by decide +kernel
theorem dX1_leastWithout_0 : decode cX1_leastWithout 0 = .ok (.aload_n 0, 1) := by decide +kernel
theorem dX1_leastWithout_1 : decode cX1_leastWithout 1 = .ok (.iload_n 1, 1) := by decide +kernel
theorem dX1_leastWithout_2 : decode cX1_leastWithout 2 = .ok (.invokevirtual 27, 3) := by decide +kernel
theorem dX1_leastWithout_5 : decode cX1_leastWithout 5 = .ok (.ifCond .eq 5, 3) := by decide +kernel
theorem dX1_leastWithout_8 : decode cX1_leastWithout 8 = .ok (.iconst (-1), 1) := by decide +kernel
theorem dX1_leastWithout_9 : decode cX1_leastWithout 9 = .ok (.ireturn, 1) := by decide +kernel
theorem dX1_leastWithout_10 : decode cX1_leastWithout 10 = .ok (.iload_n 1, 1) := by decide +kernel
theorem dX1_leastWithout_11 : decode cX1_leastWithout 11 = .ok (.ifCond .ne 8, 3) := by decide +kernel
theorem dX1_leastWithout_14 : decode cX1_leastWithout 14 = .ok (.bipush (-2), 2) := by decide +kernel
theorem dX1_leastWithout_16 : decode cX1_leastWithout 16 = .ok (.goto 9, 3) := by decide +kernel
theorem dX1_leastWithout_19 : decode cX1_leastWithout 19 = .ok (.aload_n 0, 1) := by decide +kernel
theorem dX1_leastWithout_20 : decode cX1_leastWithout 20 = .ok (.iload_n 1, 1) := by decide +kernel
theorem dX1_leastWithout_21 : decode cX1_leastWithout 21 = .ok (.iconst 0, 1) := by decide +kernel
theorem dX1_leastWithout_22 : decode cX1_leastWithout 22 = .ok (.invokevirtual 37, 3) := by decide +kernel
theorem dX1_leastWithout_25 : decode cX1_leastWithout 25 = .ok (.ireturn, 1) := by decide +kernel
theorem dX1_loss_0 : decode cX1_loss 0 = .ok (.aload_n 0, 1) := by decide +kernel
theorem dX1_loss_1 : decode cX1_loss 1 = .ok (.iload_n 1, 1) := by decide +kernel
theorem dX1_loss_2 : decode cX1_loss 2 = .ok (.invokevirtual 23, 3) := by decide +kernel
theorem dX1_loss_5 : decode cX1_loss 5 = .ok (.ifCond .eq 5, 3) := by decide +kernel
theorem dX1_loss_8 : decode cX1_loss 8 = .ok (.iconst (-1), 1) := by decide +kernel
theorem dX1_loss_9 : decode cX1_loss 9 = .ok (.ireturn, 1) := by decide +kernel
theorem dX1_loss_10 : decode cX1_loss 10 = .ok (.aload_n 0, 1) := by decide +kernel
theorem dX1_loss_11 : decode cX1_loss 11 = .ok (.iconst 0, 1) := by decide +kernel
theorem dX1_loss_12 : decode cX1_loss 12 = .ok (.iconst 1, 1) := by decide +kernel
theorem dX1_loss_13 : decode cX1_loss 13 = .ok (.invokevirtual 37, 3) := by decide +kernel
theorem dX1_loss_16 : decode cX1_loss 16 = .ok (.istore_n 2, 1) := by decide +kernel
theorem dX1_loss_17 : decode cX1_loss 17 = .ok (.aload_n 0, 1) := by decide +kernel
theorem dX1_loss_18 : decode cX1_loss 18 = .ok (.getfield 13, 3) := by decide +kernel
theorem dX1_loss_21 : decode cX1_loss 21 = .ok (.iload_n 1, 1) := by decide +kernel
theorem dX1_loss_22 : decode cX1_loss 22 = .ok (.baload, 1) := by decide +kernel
theorem dX1_loss_23 : decode cX1_loss 23 = .ok (.istore_n 3, 1) := by decide +kernel
theorem dX1_loss_24 : decode cX1_loss 24 = .ok (.aload_n 0, 1) := by decide +kernel
theorem dX1_loss_25 : decode cX1_loss 25 = .ok (.getfield 13, 3) := by decide +kernel
theorem dX1_loss_28 : decode cX1_loss 28 = .ok (.iload_n 1, 1) := by decide +kernel
theorem dX1_loss_29 : decode cX1_loss 29 = .ok (.iconst 1, 1) := by decide +kernel
theorem dX1_loss_30 : decode cX1_loss 30 = .ok (.bastore, 1) := by decide +kernel
theorem dX1_loss_31 : decode cX1_loss 31 = .ok (.aload_n 0, 1) := by decide +kernel
theorem dX1_loss_32 : decode cX1_loss 32 = .ok (.iconst 0, 1) := by decide +kernel
theorem dX1_loss_33 : decode cX1_loss 33 = .ok (.iconst 1, 1) := by decide +kernel
theorem dX1_loss_34 : decode cX1_loss 34 = .ok (.invokevirtual 37, 3) := by decide +kernel
theorem dX1_loss_37 : decode cX1_loss 37 = .ok (.istore 4, 2) := by decide +kernel
theorem dX1_loss_39 : decode cX1_loss 39 = .ok (.aload_n 0, 1) := by decide +kernel
theorem dX1_loss_40 : decode cX1_loss 40 = .ok (.getfield 13, 3) := by decide +kernel
theorem dX1_loss_43 : decode cX1_loss 43 = .ok (.iload_n 1, 1) := by decide +kernel
theorem dX1_loss_44 : decode cX1_loss 44 = .ok (.iload_n 3, 1) := by decide +kernel
theorem dX1_loss_45 : decode cX1_loss 45 = .ok (.bastore, 1) := by decide +kernel
theorem dX1_loss_46 : decode cX1_loss 46 = .ok (.iload_n 2, 1) := by decide +kernel
theorem dX1_loss_47 : decode cX1_loss 47 = .ok (.iload 4, 2) := by decide +kernel
theorem dX1_loss_49 : decode cX1_loss 49 = .ok (.isub, 1) := by decide +kernel
theorem dX1_loss_50 : decode cX1_loss 50 = .ok (.ireturn, 1) := by decide +kernel
theorem dX1_gain_0 : decode cX1_gain 0 = .ok (.aload_n 0, 1) := by decide +kernel
theorem dX1_gain_1 : decode cX1_gain 1 = .ok (.iload_n 1, 1) := by decide +kernel
theorem dX1_gain_2 : decode cX1_gain 2 = .ok (.invokevirtual 23, 3) := by decide +kernel
theorem dX1_gain_5 : decode cX1_gain 5 = .ok (.ifCond .eq 5, 3) := by decide +kernel
theorem dX1_gain_8 : decode cX1_gain 8 = .ok (.iconst (-1), 1) := by decide +kernel
theorem dX1_gain_9 : decode cX1_gain 9 = .ok (.ireturn, 1) := by decide +kernel
theorem dX1_gain_10 : decode cX1_gain 10 = .ok (.iload_n 2, 1) := by decide +kernel
theorem dX1_gain_11 : decode cX1_gain 11 = .ok (.ifCond .lt 9, 3) := by decide +kernel
theorem dX1_gain_14 : decode cX1_gain 14 = .ok (.iload_n 2, 1) := by decide +kernel
theorem dX1_gain_15 : decode cX1_gain 15 = .ok (.bipush 100, 2) := by decide +kernel
theorem dX1_gain_17 : decode cX1_gain 17 = .ok (.if_icmp .le 6, 3) := by decide +kernel
theorem dX1_gain_20 : decode cX1_gain 20 = .ok (.bipush (-2), 2) := by decide +kernel
theorem dX1_gain_22 : decode cX1_gain 22 = .ok (.ireturn, 1) := by decide +kernel
theorem dX1_gain_23 : decode cX1_gain 23 = .ok (.aload_n 0, 1) := by decide +kernel
theorem dX1_gain_24 : decode cX1_gain 24 = .ok (.iconst 0, 1) := by decide +kernel
theorem dX1_gain_25 : decode cX1_gain 25 = .ok (.iconst 1, 1) := by decide +kernel
theorem dX1_gain_26 : decode cX1_gain 26 = .ok (.invokevirtual 37, 3) := by decide +kernel
theorem dX1_gain_29 : decode cX1_gain 29 = .ok (.istore_n 3, 1) := by decide +kernel
theorem dX1_gain_30 : decode cX1_gain 30 = .ok (.aload_n 0, 1) := by decide +kernel
theorem dX1_gain_31 : decode cX1_gain 31 = .ok (.getfield 7, 3) := by decide +kernel
theorem dX1_gain_34 : decode cX1_gain 34 = .ok (.iload_n 1, 1) := by decide +kernel
theorem dX1_gain_35 : decode cX1_gain 35 = .ok (.dup2, 1) := by decide +kernel
theorem dX1_gain_36 : decode cX1_gain 36 = .ok (.iaload, 1) := by decide +kernel
theorem dX1_gain_37 : decode cX1_gain 37 = .ok (.iload_n 2, 1) := by decide +kernel
theorem dX1_gain_38 : decode cX1_gain 38 = .ok (.iadd, 1) := by decide +kernel
theorem dX1_gain_39 : decode cX1_gain 39 = .ok (.iastore, 1) := by decide +kernel
theorem dX1_gain_40 : decode cX1_gain 40 = .ok (.aload_n 0, 1) := by decide +kernel
theorem dX1_gain_41 : decode cX1_gain 41 = .ok (.iconst 0, 1) := by decide +kernel
theorem dX1_gain_42 : decode cX1_gain 42 = .ok (.iconst 1, 1) := by decide +kernel
theorem dX1_gain_43 : decode cX1_gain 43 = .ok (.invokevirtual 37, 3) := by decide +kernel
theorem dX1_gain_46 : decode cX1_gain 46 = .ok (.istore 4, 2) := by decide +kernel
theorem dX1_gain_48 : decode cX1_gain 48 = .ok (.aload_n 0, 1) := by decide +kernel
theorem dX1_gain_49 : decode cX1_gain 49 = .ok (.getfield 7, 3) := by decide +kernel
theorem dX1_gain_52 : decode cX1_gain 52 = .ok (.iload_n 1, 1) := by decide +kernel
theorem dX1_gain_53 : decode cX1_gain 53 = .ok (.dup2, 1) := by decide +kernel
theorem dX1_gain_54 : decode cX1_gain 54 = .ok (.iaload, 1) := by decide +kernel
theorem dX1_gain_55 : decode cX1_gain 55 = .ok (.iload_n 2, 1) := by decide +kernel
theorem dX1_gain_56 : decode cX1_gain 56 = .ok (.isub, 1) := by decide +kernel
theorem dX1_gain_57 : decode cX1_gain 57 = .ok (.iastore, 1) := by decide +kernel
theorem dX1_gain_58 : decode cX1_gain 58 = .ok (.iload 4, 2) := by decide +kernel
theorem dX1_gain_60 : decode cX1_gain 60 = .ok (.iload_n 3, 1) := by decide +kernel
theorem dX1_gain_61 : decode cX1_gain 61 = .ok (.isub, 1) := by decide +kernel
theorem dX1_gain_62 : decode cX1_gain 62 = .ok (.ireturn, 1) := by decide +kernel
theorem dX1_way_0 : decode cX1_way 0 = .ok (.aload_n 0, 1) := by decide +kernel
theorem dX1_way_1 : decode cX1_way 1 = .ok (.iload_n 1, 1) := by decide +kernel
theorem dX1_way_2 : decode cX1_way 2 = .ok (.invokevirtual 27, 3) := by decide +kernel
theorem dX1_way_5 : decode cX1_way 5 = .ok (.ifCond .ne 11, 3) := by decide +kernel
theorem dX1_way_8 : decode cX1_way 8 = .ok (.aload_n 0, 1) := by decide +kernel
theorem dX1_way_9 : decode cX1_way 9 = .ok (.iload_n 2, 1) := by decide +kernel
theorem dX1_way_10 : decode cX1_way 10 = .ok (.invokevirtual 27, 3) := by decide +kernel
theorem dX1_way_13 : decode cX1_way 13 = .ok (.ifCond .eq 5, 3) := by decide +kernel
theorem dX1_way_16 : decode cX1_way 16 = .ok (.iconst (-1), 1) := by decide +kernel
theorem dX1_way_17 : decode cX1_way 17 = .ok (.ireturn, 1) := by decide +kernel
theorem dX1_way_18 : decode cX1_way 18 = .ok (.iconst 1, 1) := by decide +kernel
theorem dX1_way_19 : decode cX1_way 19 = .ok (.iload_n 1, 1) := by decide +kernel
theorem dX1_way_20 : decode cX1_way 20 = .ok (.ishl, 1) := by decide +kernel
theorem dX1_way_21 : decode cX1_way 21 = .ok (.istore_n 3, 1) := by decide +kernel
theorem dX1_way_22 : decode cX1_way 22 = .ok (.iconst 0, 1) := by decide +kernel
theorem dX1_way_23 : decode cX1_way 23 = .ok (.istore 4, 2) := by decide +kernel
theorem dX1_way_25 : decode cX1_way 25 = .ok (.iload 4, 2) := by decide +kernel
theorem dX1_way_27 : decode cX1_way 27 = .ok (.bipush 12, 2) := by decide +kernel
theorem dX1_way_29 : decode cX1_way 29 = .ok (.if_icmp .ge 67, 3) := by decide +kernel
theorem dX1_way_32 : decode cX1_way 32 = .ok (.iconst 0, 1) := by decide +kernel
theorem dX1_way_33 : decode cX1_way 33 = .ok (.istore 5, 2) := by decide +kernel
theorem dX1_way_35 : decode cX1_way 35 = .ok (.iload 5, 2) := by decide +kernel
theorem dX1_way_37 : decode cX1_way 37 = .ok (.bipush 17, 2) := by decide +kernel
theorem dX1_way_39 : decode cX1_way 39 = .ok (.if_icmp .ge 51, 3) := by decide +kernel
theorem dX1_way_42 : decode cX1_way 42 = .ok (.iconst 1, 1) := by decide +kernel
theorem dX1_way_43 : decode cX1_way 43 = .ok (.aload_n 0, 1) := by decide +kernel
theorem dX1_way_44 : decode cX1_way 44 = .ok (.getfield 17, 3) := by decide +kernel
theorem dX1_way_47 : decode cX1_way 47 = .ok (.iload 5, 2) := by decide +kernel
theorem dX1_way_49 : decode cX1_way 49 = .ok (.iaload, 1) := by decide +kernel
theorem dX1_way_50 : decode cX1_way 50 = .ok (.ishl, 1) := by decide +kernel
theorem dX1_way_51 : decode cX1_way 51 = .ok (.iconst 1, 1) := by decide +kernel
theorem dX1_way_52 : decode cX1_way 52 = .ok (.aload_n 0, 1) := by decide +kernel
theorem dX1_way_53 : decode cX1_way 53 = .ok (.getfield 20, 3) := by decide +kernel
theorem dX1_way_56 : decode cX1_way 56 = .ok (.iload 5, 2) := by decide +kernel
theorem dX1_way_58 : decode cX1_way 58 = .ok (.iaload, 1) := by decide +kernel
theorem dX1_way_59 : decode cX1_way 59 = .ok (.ishl, 1) := by decide +kernel
theorem dX1_way_60 : decode cX1_way 60 = .ok (.ior, 1) := by decide +kernel
theorem dX1_way_61 : decode cX1_way 61 = .ok (.istore 6, 2) := by decide +kernel
theorem dX1_way_63 : decode cX1_way 63 = .ok (.aload_n 0, 1) := by decide +kernel
theorem dX1_way_64 : decode cX1_way 64 = .ok (.iload 5, 2) := by decide +kernel
theorem dX1_way_66 : decode cX1_way 66 = .ok (.invokevirtual 30, 3) := by decide +kernel
theorem dX1_way_69 : decode cX1_way 69 = .ok (.ifCond .le 15, 3) := by decide +kernel
theorem dX1_way_72 : decode cX1_way 72 = .ok (.iload_n 3, 1) := by decide +kernel
theorem dX1_way_73 : decode cX1_way 73 = .ok (.iload 6, 2) := by decide +kernel
theorem dX1_way_75 : decode cX1_way 75 = .ok (.iand, 1) := by decide +kernel
theorem dX1_way_76 : decode cX1_way 76 = .ok (.ifCond .eq 8, 3) := by decide +kernel
theorem dX1_way_79 : decode cX1_way 79 = .ok (.iload_n 3, 1) := by decide +kernel
theorem dX1_way_80 : decode cX1_way 80 = .ok (.iload 6, 2) := by decide +kernel
theorem dX1_way_82 : decode cX1_way 82 = .ok (.ior, 1) := by decide +kernel
theorem dX1_way_83 : decode cX1_way 83 = .ok (.istore_n 3, 1) := by decide +kernel
theorem dX1_way_84 : decode cX1_way 84 = .ok (.iinc 5 1, 3) := by decide +kernel
theorem dX1_way_87 : decode cX1_way 87 = .ok (.goto (-52), 3) := by decide +kernel
theorem dX1_way_90 : decode cX1_way 90 = .ok (.iinc 4 1, 3) := by decide +kernel
theorem dX1_way_93 : decode cX1_way 93 = .ok (.goto (-68), 3) := by decide +kernel
theorem dX1_way_96 : decode cX1_way 96 = .ok (.iload_n 3, 1) := by decide +kernel
theorem dX1_way_97 : decode cX1_way 97 = .ok (.iload_n 2, 1) := by decide +kernel
theorem dX1_way_98 : decode cX1_way 98 = .ok (.ishr, 1) := by decide +kernel
theorem dX1_way_99 : decode cX1_way 99 = .ok (.iconst 1, 1) := by decide +kernel
theorem dX1_way_100 : decode cX1_way 100 = .ok (.iand, 1) := by decide +kernel
theorem dX1_way_101 : decode cX1_way 101 = .ok (.ireturn, 1) := by decide +kernel
theorem dX1_cutStreets_0 : decode cX1_cutStreets 0 = .ok (.aload_n 0, 1) := by decide +kernel
theorem dX1_cutStreets_1 : decode cX1_cutStreets 1 = .ok (.invokevirtual 41, 3) := by decide +kernel
theorem dX1_cutStreets_4 : decode cX1_cutStreets 4 = .ok (.istore_n 1, 1) := by decide +kernel
theorem dX1_cutStreets_5 : decode cX1_cutStreets 5 = .ok (.iconst 0, 1) := by decide +kernel
theorem dX1_cutStreets_6 : decode cX1_cutStreets 6 = .ok (.istore_n 2, 1) := by decide +kernel
theorem dX1_cutStreets_7 : decode cX1_cutStreets 7 = .ok (.iconst 0, 1) := by decide +kernel
theorem dX1_cutStreets_8 : decode cX1_cutStreets 8 = .ok (.istore_n 3, 1) := by decide +kernel
theorem dX1_cutStreets_9 : decode cX1_cutStreets 9 = .ok (.iload_n 3, 1) := by decide +kernel
theorem dX1_cutStreets_10 : decode cX1_cutStreets 10 = .ok (.bipush 17, 2) := by decide +kernel
theorem dX1_cutStreets_12 : decode cX1_cutStreets 12 = .ok (.if_icmp .ge 43, 3) := by decide +kernel
theorem dX1_cutStreets_15 : decode cX1_cutStreets 15 = .ok (.iload_n 1, 1) := by decide +kernel
theorem dX1_cutStreets_16 : decode cX1_cutStreets 16 = .ok (.aload_n 0, 1) := by decide +kernel
theorem dX1_cutStreets_17 : decode cX1_cutStreets 17 = .ok (.getfield 17, 3) := by decide +kernel
theorem dX1_cutStreets_20 : decode cX1_cutStreets 20 = .ok (.iload_n 3, 1) := by decide +kernel
theorem dX1_cutStreets_21 : decode cX1_cutStreets 21 = .ok (.iaload, 1) := by decide +kernel
theorem dX1_cutStreets_22 : decode cX1_cutStreets 22 = .ok (.ishr, 1) := by decide +kernel
theorem dX1_cutStreets_23 : decode cX1_cutStreets 23 = .ok (.iconst 1, 1) := by decide +kernel
theorem dX1_cutStreets_24 : decode cX1_cutStreets 24 = .ok (.iand, 1) := by decide +kernel
theorem dX1_cutStreets_25 : decode cX1_cutStreets 25 = .ok (.iload_n 1, 1) := by decide +kernel
theorem dX1_cutStreets_26 : decode cX1_cutStreets 26 = .ok (.aload_n 0, 1) := by decide +kernel
theorem dX1_cutStreets_27 : decode cX1_cutStreets 27 = .ok (.getfield 20, 3) := by decide +kernel
theorem dX1_cutStreets_30 : decode cX1_cutStreets 30 = .ok (.iload_n 3, 1) := by decide +kernel
theorem dX1_cutStreets_31 : decode cX1_cutStreets 31 = .ok (.iaload, 1) := by decide +kernel
theorem dX1_cutStreets_32 : decode cX1_cutStreets 32 = .ok (.ishr, 1) := by decide +kernel
theorem dX1_cutStreets_33 : decode cX1_cutStreets 33 = .ok (.iconst 1, 1) := by decide +kernel
theorem dX1_cutStreets_34 : decode cX1_cutStreets 34 = .ok (.iand, 1) := by decide +kernel
theorem dX1_cutStreets_35 : decode cX1_cutStreets 35 = .ok (.if_icmp .eq 14, 3) := by decide +kernel
theorem dX1_cutStreets_38 : decode cX1_cutStreets 38 = .ok (.aload_n 0, 1) := by decide +kernel
theorem dX1_cutStreets_39 : decode cX1_cutStreets 39 = .ok (.iload_n 3, 1) := by decide +kernel
theorem dX1_cutStreets_40 : decode cX1_cutStreets 40 = .ok (.invokevirtual 30, 3) := by decide +kernel
theorem dX1_cutStreets_43 : decode cX1_cutStreets 43 = .ok (.ifCond .le 6, 3) := by decide +kernel
theorem dX1_cutStreets_46 : decode cX1_cutStreets 46 = .ok (.iinc 2 1, 3) := by decide +kernel
theorem dX1_cutStreets_49 : decode cX1_cutStreets 49 = .ok (.iinc 3 1, 3) := by decide +kernel
theorem dX1_cutStreets_52 : decode cX1_cutStreets 52 = .ok (.goto (-43), 3) := by decide +kernel
theorem dX1_cutStreets_55 : decode cX1_cutStreets 55 = .ok (.iload_n 2, 1) := by decide +kernel
theorem dX1_cutStreets_56 : decode cX1_cutStreets 56 = .ok (.ireturn, 1) := by decide +kernel
end
section
set_option maxRecDepth 100000
theorem dL_law_0 : decode cL_law 0 = .ok (.new 7, 3) := by decide +kernel
theorem dL_law_3 : decode cL_law 3 = .ok (.dup, 1) := by decide +kernel
theorem dL_law_4 : decode cL_law 4 = .ok (.invokespecial 9, 3) := by decide +kernel
theorem dL_law_7 : decode cL_law 7 = .ok (.astore_n 1, 1) := by decide +kernel
theorem dL_law_8 : decode cL_law 8 = .ok (.new 10, 3) := by decide +kernel
theorem dL_law_11 : decode cL_law 11 = .ok (.dup, 1) := by decide +kernel
theorem dL_law_12 : decode cL_law 12 = .ok (.invokespecial 12, 3) := by decide +kernel
theorem dL_law_15 : decode cL_law 15 = .ok (.astore_n 2, 1) := by decide +kernel
theorem dL_law_16 : decode cL_law 16 = .ok (.iconst 0, 1) := by decide +kernel
theorem dL_law_17 : decode cL_law 17 = .ok (.istore_n 3, 1) := by decide +kernel
theorem dL_law_18 : decode cL_law 18 = .ok (.iload_n 3, 1) := by decide +kernel
theorem dL_law_19 : decode cL_law 19 = .ok (.aload_n 0, 1) := by decide +kernel
theorem dL_law_20 : decode cL_law 20 = .ok (.arraylength, 1) := by decide +kernel
theorem dL_law_21 : decode cL_law 21 = .ok (.iconst 3, 1) := by decide +kernel
theorem dL_law_22 : decode cL_law 22 = .ok (.isub, 1) := by decide +kernel
theorem dL_law_23 : decode cL_law 23 = .ok (.if_icmp .gt 456, 3) := by decide +kernel
theorem dL_law_26 : decode cL_law 26 = .ok (.aload_n 0, 1) := by decide +kernel
theorem dL_law_27 : decode cL_law 27 = .ok (.iload_n 3, 1) := by decide +kernel
theorem dL_law_28 : decode cL_law 28 = .ok (.iaload, 1) := by decide +kernel
theorem dL_law_29 : decode cL_law 29 = .ok (.bipush 15, 2) := by decide +kernel
theorem dL_law_31 : decode cL_law 31 = .ok (.iand, 1) := by decide +kernel
theorem dL_law_32 : decode cL_law 32 = .ok (.tableswitch 441 0 14 #[76, 109, 142, 175, 198, 231, 244, 267, 280, 293, 316, 339, 362, 395, 428], 76) := by decide +kernel
theorem dL_law_108 : decode cL_law 108 = .ok (.aload_n 1, 1) := by decide +kernel
theorem dL_law_109 : decode cL_law 109 = .ok (.aload_n 0, 1) := by decide +kernel
theorem dL_law_110 : decode cL_law 110 = .ok (.iload_n 3, 1) := by decide +kernel
theorem dL_law_111 : decode cL_law 111 = .ok (.iconst 1, 1) := by decide +kernel
theorem dL_law_112 : decode cL_law 112 = .ok (.iadd, 1) := by decide +kernel
theorem dL_law_113 : decode cL_law 113 = .ok (.iaload, 1) := by decide +kernel
theorem dL_law_114 : decode cL_law 114 = .ok (.aload_n 0, 1) := by decide +kernel
theorem dL_law_115 : decode cL_law 115 = .ok (.iload_n 3, 1) := by decide +kernel
theorem dL_law_116 : decode cL_law 116 = .ok (.iconst 2, 1) := by decide +kernel
theorem dL_law_117 : decode cL_law 117 = .ok (.iadd, 1) := by decide +kernel
theorem dL_law_118 : decode cL_law 118 = .ok (.iaload, 1) := by decide +kernel
theorem dL_law_119 : decode cL_law 119 = .ok (.invokevirtual 13, 3) := by decide +kernel
theorem dL_law_122 : decode cL_law 122 = .ok (.aload_n 2, 1) := by decide +kernel
theorem dL_law_123 : decode cL_law 123 = .ok (.aload_n 0, 1) := by decide +kernel
theorem dL_law_124 : decode cL_law 124 = .ok (.iload_n 3, 1) := by decide +kernel
theorem dL_law_125 : decode cL_law 125 = .ok (.iconst 1, 1) := by decide +kernel
theorem dL_law_126 : decode cL_law 126 = .ok (.iadd, 1) := by decide +kernel
theorem dL_law_127 : decode cL_law 127 = .ok (.iaload, 1) := by decide +kernel
theorem dL_law_128 : decode cL_law 128 = .ok (.aload_n 0, 1) := by decide +kernel
theorem dL_law_129 : decode cL_law 129 = .ok (.iload_n 3, 1) := by decide +kernel
theorem dL_law_130 : decode cL_law 130 = .ok (.iconst 2, 1) := by decide +kernel
theorem dL_law_131 : decode cL_law 131 = .ok (.iadd, 1) := by decide +kernel
theorem dL_law_132 : decode cL_law 132 = .ok (.iaload, 1) := by decide +kernel
theorem dL_law_133 : decode cL_law 133 = .ok (.invokevirtual 17, 3) := by decide +kernel
theorem dL_law_136 : decode cL_law 136 = .ok (.if_icmp .eq 337, 3) := by decide +kernel
theorem dL_law_139 : decode cL_law 139 = .ok (.iconst 0, 1) := by decide +kernel
theorem dL_law_140 : decode cL_law 140 = .ok (.ireturn, 1) := by decide +kernel
theorem dL_law_141 : decode cL_law 141 = .ok (.aload_n 1, 1) := by decide +kernel
theorem dL_law_142 : decode cL_law 142 = .ok (.aload_n 0, 1) := by decide +kernel
theorem dL_law_143 : decode cL_law 143 = .ok (.iload_n 3, 1) := by decide +kernel
theorem dL_law_144 : decode cL_law 144 = .ok (.iconst 1, 1) := by decide +kernel
theorem dL_law_145 : decode cL_law 145 = .ok (.iadd, 1) := by decide +kernel
theorem dL_law_146 : decode cL_law 146 = .ok (.iaload, 1) := by decide +kernel
theorem dL_law_147 : decode cL_law 147 = .ok (.aload_n 0, 1) := by decide +kernel
theorem dL_law_148 : decode cL_law 148 = .ok (.iload_n 3, 1) := by decide +kernel
theorem dL_law_149 : decode cL_law 149 = .ok (.iconst 2, 1) := by decide +kernel
theorem dL_law_150 : decode cL_law 150 = .ok (.iadd, 1) := by decide +kernel
theorem dL_law_151 : decode cL_law 151 = .ok (.iaload, 1) := by decide +kernel
theorem dL_law_152 : decode cL_law 152 = .ok (.invokevirtual 18, 3) := by decide +kernel
theorem dL_law_155 : decode cL_law 155 = .ok (.aload_n 2, 1) := by decide +kernel
theorem dL_law_156 : decode cL_law 156 = .ok (.aload_n 0, 1) := by decide +kernel
theorem dL_law_157 : decode cL_law 157 = .ok (.iload_n 3, 1) := by decide +kernel
theorem dL_law_158 : decode cL_law 158 = .ok (.iconst 1, 1) := by decide +kernel
theorem dL_law_159 : decode cL_law 159 = .ok (.iadd, 1) := by decide +kernel
theorem dL_law_160 : decode cL_law 160 = .ok (.iaload, 1) := by decide +kernel
theorem dL_law_161 : decode cL_law 161 = .ok (.aload_n 0, 1) := by decide +kernel
theorem dL_law_162 : decode cL_law 162 = .ok (.iload_n 3, 1) := by decide +kernel
theorem dL_law_163 : decode cL_law 163 = .ok (.iconst 2, 1) := by decide +kernel
theorem dL_law_164 : decode cL_law 164 = .ok (.iadd, 1) := by decide +kernel
theorem dL_law_165 : decode cL_law 165 = .ok (.iaload, 1) := by decide +kernel
theorem dL_law_166 : decode cL_law 166 = .ok (.invokevirtual 21, 3) := by decide +kernel
theorem dL_law_169 : decode cL_law 169 = .ok (.if_icmp .eq 304, 3) := by decide +kernel
theorem dL_law_172 : decode cL_law 172 = .ok (.iconst 0, 1) := by decide +kernel
theorem dL_law_173 : decode cL_law 173 = .ok (.ireturn, 1) := by decide +kernel
theorem dL_law_174 : decode cL_law 174 = .ok (.aload_n 1, 1) := by decide +kernel
theorem dL_law_175 : decode cL_law 175 = .ok (.aload_n 0, 1) := by decide +kernel
theorem dL_law_176 : decode cL_law 176 = .ok (.iload_n 3, 1) := by decide +kernel
theorem dL_law_177 : decode cL_law 177 = .ok (.iconst 1, 1) := by decide +kernel
theorem dL_law_178 : decode cL_law 178 = .ok (.iadd, 1) := by decide +kernel
theorem dL_law_179 : decode cL_law 179 = .ok (.iaload, 1) := by decide +kernel
theorem dL_law_180 : decode cL_law 180 = .ok (.aload_n 0, 1) := by decide +kernel
theorem dL_law_181 : decode cL_law 181 = .ok (.iload_n 3, 1) := by decide +kernel
theorem dL_law_182 : decode cL_law 182 = .ok (.iconst 2, 1) := by decide +kernel
theorem dL_law_183 : decode cL_law 183 = .ok (.iadd, 1) := by decide +kernel
theorem dL_law_184 : decode cL_law 184 = .ok (.iaload, 1) := by decide +kernel
theorem dL_law_185 : decode cL_law 185 = .ok (.invokevirtual 22, 3) := by decide +kernel
theorem dL_law_188 : decode cL_law 188 = .ok (.aload_n 2, 1) := by decide +kernel
theorem dL_law_189 : decode cL_law 189 = .ok (.aload_n 0, 1) := by decide +kernel
theorem dL_law_190 : decode cL_law 190 = .ok (.iload_n 3, 1) := by decide +kernel
theorem dL_law_191 : decode cL_law 191 = .ok (.iconst 1, 1) := by decide +kernel
theorem dL_law_192 : decode cL_law 192 = .ok (.iadd, 1) := by decide +kernel
theorem dL_law_193 : decode cL_law 193 = .ok (.iaload, 1) := by decide +kernel
theorem dL_law_194 : decode cL_law 194 = .ok (.aload_n 0, 1) := by decide +kernel
theorem dL_law_195 : decode cL_law 195 = .ok (.iload_n 3, 1) := by decide +kernel
theorem dL_law_196 : decode cL_law 196 = .ok (.iconst 2, 1) := by decide +kernel
theorem dL_law_197 : decode cL_law 197 = .ok (.iadd, 1) := by decide +kernel
theorem dL_law_198 : decode cL_law 198 = .ok (.iaload, 1) := by decide +kernel
theorem dL_law_199 : decode cL_law 199 = .ok (.invokevirtual 25, 3) := by decide +kernel
theorem dL_law_202 : decode cL_law 202 = .ok (.if_icmp .eq 271, 3) := by decide +kernel
theorem dL_law_205 : decode cL_law 205 = .ok (.iconst 0, 1) := by decide +kernel
theorem dL_law_206 : decode cL_law 206 = .ok (.ireturn, 1) := by decide +kernel
theorem dL_law_207 : decode cL_law 207 = .ok (.aload_n 1, 1) := by decide +kernel
theorem dL_law_208 : decode cL_law 208 = .ok (.aload_n 0, 1) := by decide +kernel
theorem dL_law_209 : decode cL_law 209 = .ok (.iload_n 3, 1) := by decide +kernel
theorem dL_law_210 : decode cL_law 210 = .ok (.iconst 1, 1) := by decide +kernel
theorem dL_law_211 : decode cL_law 211 = .ok (.iadd, 1) := by decide +kernel
theorem dL_law_212 : decode cL_law 212 = .ok (.iaload, 1) := by decide +kernel
theorem dL_law_213 : decode cL_law 213 = .ok (.invokevirtual 26, 3) := by decide +kernel
theorem dL_law_216 : decode cL_law 216 = .ok (.aload_n 2, 1) := by decide +kernel
theorem dL_law_217 : decode cL_law 217 = .ok (.aload_n 0, 1) := by decide +kernel
theorem dL_law_218 : decode cL_law 218 = .ok (.iload_n 3, 1) := by decide +kernel
theorem dL_law_219 : decode cL_law 219 = .ok (.iconst 1, 1) := by decide +kernel
theorem dL_law_220 : decode cL_law 220 = .ok (.iadd, 1) := by decide +kernel
theorem dL_law_221 : decode cL_law 221 = .ok (.iaload, 1) := by decide +kernel
theorem dL_law_222 : decode cL_law 222 = .ok (.invokevirtual 30, 3) := by decide +kernel
theorem dL_law_225 : decode cL_law 225 = .ok (.if_icmp .eq 248, 3) := by decide +kernel
theorem dL_law_228 : decode cL_law 228 = .ok (.iconst 0, 1) := by decide +kernel
theorem dL_law_229 : decode cL_law 229 = .ok (.ireturn, 1) := by decide +kernel
theorem dL_law_230 : decode cL_law 230 = .ok (.aload_n 1, 1) := by decide +kernel
theorem dL_law_231 : decode cL_law 231 = .ok (.aload_n 0, 1) := by decide +kernel
theorem dL_law_232 : decode cL_law 232 = .ok (.iload_n 3, 1) := by decide +kernel
theorem dL_law_233 : decode cL_law 233 = .ok (.iconst 1, 1) := by decide +kernel
theorem dL_law_234 : decode cL_law 234 = .ok (.iadd, 1) := by decide +kernel
theorem dL_law_235 : decode cL_law 235 = .ok (.iaload, 1) := by decide +kernel
theorem dL_law_236 : decode cL_law 236 = .ok (.aload_n 0, 1) := by decide +kernel
theorem dL_law_237 : decode cL_law 237 = .ok (.iload_n 3, 1) := by decide +kernel
theorem dL_law_238 : decode cL_law 238 = .ok (.iconst 2, 1) := by decide +kernel
theorem dL_law_239 : decode cL_law 239 = .ok (.iadd, 1) := by decide +kernel
theorem dL_law_240 : decode cL_law 240 = .ok (.iaload, 1) := by decide +kernel
theorem dL_law_241 : decode cL_law 241 = .ok (.invokevirtual 31, 3) := by decide +kernel
theorem dL_law_244 : decode cL_law 244 = .ok (.aload_n 2, 1) := by decide +kernel
theorem dL_law_245 : decode cL_law 245 = .ok (.aload_n 0, 1) := by decide +kernel
theorem dL_law_246 : decode cL_law 246 = .ok (.iload_n 3, 1) := by decide +kernel
theorem dL_law_247 : decode cL_law 247 = .ok (.iconst 1, 1) := by decide +kernel
theorem dL_law_248 : decode cL_law 248 = .ok (.iadd, 1) := by decide +kernel
theorem dL_law_249 : decode cL_law 249 = .ok (.iaload, 1) := by decide +kernel
theorem dL_law_250 : decode cL_law 250 = .ok (.aload_n 0, 1) := by decide +kernel
theorem dL_law_251 : decode cL_law 251 = .ok (.iload_n 3, 1) := by decide +kernel
theorem dL_law_252 : decode cL_law 252 = .ok (.iconst 2, 1) := by decide +kernel
theorem dL_law_253 : decode cL_law 253 = .ok (.iadd, 1) := by decide +kernel
theorem dL_law_254 : decode cL_law 254 = .ok (.iaload, 1) := by decide +kernel
theorem dL_law_255 : decode cL_law 255 = .ok (.invokevirtual 34, 3) := by decide +kernel
theorem dL_law_258 : decode cL_law 258 = .ok (.if_icmp .eq 215, 3) := by decide +kernel
theorem dL_law_261 : decode cL_law 261 = .ok (.iconst 0, 1) := by decide +kernel
theorem dL_law_262 : decode cL_law 262 = .ok (.ireturn, 1) := by decide +kernel
theorem dL_law_263 : decode cL_law 263 = .ok (.aload_n 1, 1) := by decide +kernel
theorem dL_law_264 : decode cL_law 264 = .ok (.invokevirtual 35, 3) := by decide +kernel
theorem dL_law_267 : decode cL_law 267 = .ok (.aload_n 2, 1) := by decide +kernel
theorem dL_law_268 : decode cL_law 268 = .ok (.invokevirtual 39, 3) := by decide +kernel
theorem dL_law_271 : decode cL_law 271 = .ok (.if_icmp .eq 202, 3) := by decide +kernel
theorem dL_law_274 : decode cL_law 274 = .ok (.iconst 0, 1) := by decide +kernel
theorem dL_law_275 : decode cL_law 275 = .ok (.ireturn, 1) := by decide +kernel
theorem dL_law_276 : decode cL_law 276 = .ok (.aload_n 1, 1) := by decide +kernel
theorem dL_law_277 : decode cL_law 277 = .ok (.aload_n 0, 1) := by decide +kernel
theorem dL_law_278 : decode cL_law 278 = .ok (.iload_n 3, 1) := by decide +kernel
theorem dL_law_279 : decode cL_law 279 = .ok (.iconst 1, 1) := by decide +kernel
theorem dL_law_280 : decode cL_law 280 = .ok (.iadd, 1) := by decide +kernel
theorem dL_law_281 : decode cL_law 281 = .ok (.iaload, 1) := by decide +kernel
theorem dL_law_282 : decode cL_law 282 = .ok (.invokevirtual 40, 3) := by decide +kernel
theorem dL_law_285 : decode cL_law 285 = .ok (.aload_n 2, 1) := by decide +kernel
theorem dL_law_286 : decode cL_law 286 = .ok (.aload_n 0, 1) := by decide +kernel
theorem dL_law_287 : decode cL_law 287 = .ok (.iload_n 3, 1) := by decide +kernel
theorem dL_law_288 : decode cL_law 288 = .ok (.iconst 1, 1) := by decide +kernel
theorem dL_law_289 : decode cL_law 289 = .ok (.iadd, 1) := by decide +kernel
theorem dL_law_290 : decode cL_law 290 = .ok (.iaload, 1) := by decide +kernel
theorem dL_law_291 : decode cL_law 291 = .ok (.invokevirtual 43, 3) := by decide +kernel
theorem dL_law_294 : decode cL_law 294 = .ok (.if_icmp .eq 179, 3) := by decide +kernel
theorem dL_law_297 : decode cL_law 297 = .ok (.iconst 0, 1) := by decide +kernel
theorem dL_law_298 : decode cL_law 298 = .ok (.ireturn, 1) := by decide +kernel
theorem dL_law_299 : decode cL_law 299 = .ok (.aload_n 1, 1) := by decide +kernel
theorem dL_law_300 : decode cL_law 300 = .ok (.invokevirtual 44, 3) := by decide +kernel
theorem dL_law_303 : decode cL_law 303 = .ok (.aload_n 2, 1) := by decide +kernel
theorem dL_law_304 : decode cL_law 304 = .ok (.invokevirtual 47, 3) := by decide +kernel
theorem dL_law_307 : decode cL_law 307 = .ok (.if_icmp .eq 166, 3) := by decide +kernel
theorem dL_law_310 : decode cL_law 310 = .ok (.iconst 0, 1) := by decide +kernel
theorem dL_law_311 : decode cL_law 311 = .ok (.ireturn, 1) := by decide +kernel
theorem dL_law_312 : decode cL_law 312 = .ok (.aload_n 1, 1) := by decide +kernel
theorem dL_law_313 : decode cL_law 313 = .ok (.invokevirtual 48, 3) := by decide +kernel
theorem dL_law_316 : decode cL_law 316 = .ok (.aload_n 2, 1) := by decide +kernel
theorem dL_law_317 : decode cL_law 317 = .ok (.invokevirtual 51, 3) := by decide +kernel
theorem dL_law_320 : decode cL_law 320 = .ok (.if_icmp .eq 153, 3) := by decide +kernel
theorem dL_law_323 : decode cL_law 323 = .ok (.iconst 0, 1) := by decide +kernel
theorem dL_law_324 : decode cL_law 324 = .ok (.ireturn, 1) := by decide +kernel
theorem dL_law_325 : decode cL_law 325 = .ok (.aload_n 1, 1) := by decide +kernel
theorem dL_law_326 : decode cL_law 326 = .ok (.aload_n 0, 1) := by decide +kernel
theorem dL_law_327 : decode cL_law 327 = .ok (.iload_n 3, 1) := by decide +kernel
theorem dL_law_328 : decode cL_law 328 = .ok (.iconst 1, 1) := by decide +kernel
theorem dL_law_329 : decode cL_law 329 = .ok (.iadd, 1) := by decide +kernel
theorem dL_law_330 : decode cL_law 330 = .ok (.iaload, 1) := by decide +kernel
theorem dL_law_331 : decode cL_law 331 = .ok (.invokevirtual 52, 3) := by decide +kernel
theorem dL_law_334 : decode cL_law 334 = .ok (.aload_n 2, 1) := by decide +kernel
theorem dL_law_335 : decode cL_law 335 = .ok (.aload_n 0, 1) := by decide +kernel
theorem dL_law_336 : decode cL_law 336 = .ok (.iload_n 3, 1) := by decide +kernel
theorem dL_law_337 : decode cL_law 337 = .ok (.iconst 1, 1) := by decide +kernel
theorem dL_law_338 : decode cL_law 338 = .ok (.iadd, 1) := by decide +kernel
theorem dL_law_339 : decode cL_law 339 = .ok (.iaload, 1) := by decide +kernel
theorem dL_law_340 : decode cL_law 340 = .ok (.invokevirtual 55, 3) := by decide +kernel
theorem dL_law_343 : decode cL_law 343 = .ok (.if_icmp .eq 130, 3) := by decide +kernel
theorem dL_law_346 : decode cL_law 346 = .ok (.iconst 0, 1) := by decide +kernel
theorem dL_law_347 : decode cL_law 347 = .ok (.ireturn, 1) := by decide +kernel
theorem dL_law_348 : decode cL_law 348 = .ok (.aload_n 1, 1) := by decide +kernel
theorem dL_law_349 : decode cL_law 349 = .ok (.aload_n 0, 1) := by decide +kernel
theorem dL_law_350 : decode cL_law 350 = .ok (.iload_n 3, 1) := by decide +kernel
theorem dL_law_351 : decode cL_law 351 = .ok (.iconst 1, 1) := by decide +kernel
theorem dL_law_352 : decode cL_law 352 = .ok (.iadd, 1) := by decide +kernel
theorem dL_law_353 : decode cL_law 353 = .ok (.iaload, 1) := by decide +kernel
theorem dL_law_354 : decode cL_law 354 = .ok (.invokevirtual 56, 3) := by decide +kernel
theorem dL_law_357 : decode cL_law 357 = .ok (.aload_n 2, 1) := by decide +kernel
theorem dL_law_358 : decode cL_law 358 = .ok (.aload_n 0, 1) := by decide +kernel
theorem dL_law_359 : decode cL_law 359 = .ok (.iload_n 3, 1) := by decide +kernel
theorem dL_law_360 : decode cL_law 360 = .ok (.iconst 1, 1) := by decide +kernel
theorem dL_law_361 : decode cL_law 361 = .ok (.iadd, 1) := by decide +kernel
theorem dL_law_362 : decode cL_law 362 = .ok (.iaload, 1) := by decide +kernel
theorem dL_law_363 : decode cL_law 363 = .ok (.invokevirtual 59, 3) := by decide +kernel
theorem dL_law_366 : decode cL_law 366 = .ok (.if_icmp .eq 107, 3) := by decide +kernel
theorem dL_law_369 : decode cL_law 369 = .ok (.iconst 0, 1) := by decide +kernel
theorem dL_law_370 : decode cL_law 370 = .ok (.ireturn, 1) := by decide +kernel
theorem dL_law_371 : decode cL_law 371 = .ok (.aload_n 1, 1) := by decide +kernel
theorem dL_law_372 : decode cL_law 372 = .ok (.aload_n 0, 1) := by decide +kernel
theorem dL_law_373 : decode cL_law 373 = .ok (.iload_n 3, 1) := by decide +kernel
theorem dL_law_374 : decode cL_law 374 = .ok (.iconst 1, 1) := by decide +kernel
theorem dL_law_375 : decode cL_law 375 = .ok (.iadd, 1) := by decide +kernel
theorem dL_law_376 : decode cL_law 376 = .ok (.iaload, 1) := by decide +kernel
theorem dL_law_377 : decode cL_law 377 = .ok (.invokevirtual 60, 3) := by decide +kernel
theorem dL_law_380 : decode cL_law 380 = .ok (.aload_n 2, 1) := by decide +kernel
theorem dL_law_381 : decode cL_law 381 = .ok (.aload_n 0, 1) := by decide +kernel
theorem dL_law_382 : decode cL_law 382 = .ok (.iload_n 3, 1) := by decide +kernel
theorem dL_law_383 : decode cL_law 383 = .ok (.iconst 1, 1) := by decide +kernel
theorem dL_law_384 : decode cL_law 384 = .ok (.iadd, 1) := by decide +kernel
theorem dL_law_385 : decode cL_law 385 = .ok (.iaload, 1) := by decide +kernel
theorem dL_law_386 : decode cL_law 386 = .ok (.invokevirtual 63, 3) := by decide +kernel
theorem dL_law_389 : decode cL_law 389 = .ok (.if_icmp .eq 84, 3) := by decide +kernel
theorem dL_law_392 : decode cL_law 392 = .ok (.iconst 0, 1) := by decide +kernel
theorem dL_law_393 : decode cL_law 393 = .ok (.ireturn, 1) := by decide +kernel
theorem dL_law_394 : decode cL_law 394 = .ok (.aload_n 1, 1) := by decide +kernel
theorem dL_law_395 : decode cL_law 395 = .ok (.aload_n 0, 1) := by decide +kernel
theorem dL_law_396 : decode cL_law 396 = .ok (.iload_n 3, 1) := by decide +kernel
theorem dL_law_397 : decode cL_law 397 = .ok (.iconst 1, 1) := by decide +kernel
theorem dL_law_398 : decode cL_law 398 = .ok (.iadd, 1) := by decide +kernel
theorem dL_law_399 : decode cL_law 399 = .ok (.iaload, 1) := by decide +kernel
theorem dL_law_400 : decode cL_law 400 = .ok (.aload_n 0, 1) := by decide +kernel
theorem dL_law_401 : decode cL_law 401 = .ok (.iload_n 3, 1) := by decide +kernel
theorem dL_law_402 : decode cL_law 402 = .ok (.iconst 2, 1) := by decide +kernel
theorem dL_law_403 : decode cL_law 403 = .ok (.iadd, 1) := by decide +kernel
theorem dL_law_404 : decode cL_law 404 = .ok (.iaload, 1) := by decide +kernel
theorem dL_law_405 : decode cL_law 405 = .ok (.invokevirtual 64, 3) := by decide +kernel
theorem dL_law_408 : decode cL_law 408 = .ok (.aload_n 2, 1) := by decide +kernel
theorem dL_law_409 : decode cL_law 409 = .ok (.aload_n 0, 1) := by decide +kernel
theorem dL_law_410 : decode cL_law 410 = .ok (.iload_n 3, 1) := by decide +kernel
theorem dL_law_411 : decode cL_law 411 = .ok (.iconst 1, 1) := by decide +kernel
theorem dL_law_412 : decode cL_law 412 = .ok (.iadd, 1) := by decide +kernel
theorem dL_law_413 : decode cL_law 413 = .ok (.iaload, 1) := by decide +kernel
theorem dL_law_414 : decode cL_law 414 = .ok (.aload_n 0, 1) := by decide +kernel
theorem dL_law_415 : decode cL_law 415 = .ok (.iload_n 3, 1) := by decide +kernel
theorem dL_law_416 : decode cL_law 416 = .ok (.iconst 2, 1) := by decide +kernel
theorem dL_law_417 : decode cL_law 417 = .ok (.iadd, 1) := by decide +kernel
theorem dL_law_418 : decode cL_law 418 = .ok (.iaload, 1) := by decide +kernel
theorem dL_law_419 : decode cL_law 419 = .ok (.invokevirtual 67, 3) := by decide +kernel
theorem dL_law_422 : decode cL_law 422 = .ok (.if_icmp .eq 51, 3) := by decide +kernel
theorem dL_law_425 : decode cL_law 425 = .ok (.iconst 0, 1) := by decide +kernel
theorem dL_law_426 : decode cL_law 426 = .ok (.ireturn, 1) := by decide +kernel
theorem dL_law_427 : decode cL_law 427 = .ok (.aload_n 1, 1) := by decide +kernel
theorem dL_law_428 : decode cL_law 428 = .ok (.aload_n 0, 1) := by decide +kernel
theorem dL_law_429 : decode cL_law 429 = .ok (.iload_n 3, 1) := by decide +kernel
theorem dL_law_430 : decode cL_law 430 = .ok (.iconst 1, 1) := by decide +kernel
theorem dL_law_431 : decode cL_law 431 = .ok (.iadd, 1) := by decide +kernel
theorem dL_law_432 : decode cL_law 432 = .ok (.iaload, 1) := by decide +kernel
theorem dL_law_433 : decode cL_law 433 = .ok (.aload_n 0, 1) := by decide +kernel
theorem dL_law_434 : decode cL_law 434 = .ok (.iload_n 3, 1) := by decide +kernel
theorem dL_law_435 : decode cL_law 435 = .ok (.iconst 2, 1) := by decide +kernel
theorem dL_law_436 : decode cL_law 436 = .ok (.iadd, 1) := by decide +kernel
theorem dL_law_437 : decode cL_law 437 = .ok (.iaload, 1) := by decide +kernel
theorem dL_law_438 : decode cL_law 438 = .ok (.invokevirtual 68, 3) := by decide +kernel
theorem dL_law_441 : decode cL_law 441 = .ok (.aload_n 2, 1) := by decide +kernel
theorem dL_law_442 : decode cL_law 442 = .ok (.aload_n 0, 1) := by decide +kernel
theorem dL_law_443 : decode cL_law 443 = .ok (.iload_n 3, 1) := by decide +kernel
theorem dL_law_444 : decode cL_law 444 = .ok (.iconst 1, 1) := by decide +kernel
theorem dL_law_445 : decode cL_law 445 = .ok (.iadd, 1) := by decide +kernel
theorem dL_law_446 : decode cL_law 446 = .ok (.iaload, 1) := by decide +kernel
theorem dL_law_447 : decode cL_law 447 = .ok (.aload_n 0, 1) := by decide +kernel
theorem dL_law_448 : decode cL_law 448 = .ok (.iload_n 3, 1) := by decide +kernel
theorem dL_law_449 : decode cL_law 449 = .ok (.iconst 2, 1) := by decide +kernel
theorem dL_law_450 : decode cL_law 450 = .ok (.iadd, 1) := by decide +kernel
theorem dL_law_451 : decode cL_law 451 = .ok (.iaload, 1) := by decide +kernel
theorem dL_law_452 : decode cL_law 452 = .ok (.invokevirtual 71, 3) := by decide +kernel
theorem dL_law_455 : decode cL_law 455 = .ok (.if_icmp .eq 18, 3) := by decide +kernel
theorem dL_law_458 : decode cL_law 458 = .ok (.iconst 0, 1) := by decide +kernel
theorem dL_law_459 : decode cL_law 459 = .ok (.ireturn, 1) := by decide +kernel
theorem dL_law_460 : decode cL_law 460 = .ok (.aload_n 1, 1) := by decide +kernel
theorem dL_law_461 : decode cL_law 461 = .ok (.invokevirtual 72, 3) := by decide +kernel
theorem dL_law_464 : decode cL_law 464 = .ok (.aload_n 2, 1) := by decide +kernel
theorem dL_law_465 : decode cL_law 465 = .ok (.invokevirtual 75, 3) := by decide +kernel
theorem dL_law_468 : decode cL_law 468 = .ok (.if_icmp .eq 5, 3) := by decide +kernel
theorem dL_law_471 : decode cL_law 471 = .ok (.iconst 0, 1) := by decide +kernel
theorem dL_law_472 : decode cL_law 472 = .ok (.ireturn, 1) := by decide +kernel
theorem dL_law_473 : decode cL_law 473 = .ok (.iinc 3 3, 3) := by decide +kernel
theorem dL_law_476 : decode cL_law 476 = .ok (.goto (-458), 3) := by decide +kernel
theorem dL_law_479 : decode cL_law 479 = .ok (.iconst 1, 1) := by decide +kernel
theorem dL_law_480 : decode cL_law 480 = .ok (.ireturn, 1) := by decide +kernel
end
section
set_option maxRecDepth 100000
/-! THE WALK'S LAYER: J, a world and a list of locals at a pc, over every heap that holds them; a row an instruction; contracts Ctd (from world W0 the method answers rv and leaves world W1) -/
abbrev vwCl : List vw_C := [(RX0, TX0, 7), (RX1, TX1, 4)]
/-- what is fixed in a method's body -/
def Cx (p : Program) (s : State) (m : MethodId) (args : Array Value) (meth : Method) (c : Code) (cc : ByteArray) (nL : Nat) (own : String) (ret : Option FieldType) (D : va_G) (tys : List (ClassId × FieldType)) (A : Nat → Prop) : Prop :=
  CallFix p m c cc nL s args lw_all own ∧ meth.sig.returnType = ret ∧ meth.locks = false ∧ va_K D vwCl tys s ∧ (∀ q : Nat, s.heap.size ≤ q → A q)
def J (p : Program) (l : Launch) (e : Env) (R : Room) (s : State) (m : MethodId) (args : Array Value) (below : List Frame) (meth : Method) (c : Code) (D : va_G) (A : Nat → Prop) (nL cells slots : Nat) (Q : State → Prop) (ws : va_W) (pc : Nat) (lv : List (Nat × Value)) (st : List Value) : Prop :=
  ∀ (H : Heap) (locs : List Loc) (ls : Array Slot), va_P D vwCl ws H → va_D A ws → va_S A s.heap H locs → lv_has ls nL lv → W p l e R s m args below meth c H locs cells slots Q (F0 m pc ls st)
section JR
variable {p : Program} {l : Launch} {e : Env} {R : Room} {s : State} {m : MethodId} {args : Array Value} {below : List Frame} {meth : Method} {c : Code} {cc : ByteArray} {nL : Nat} {own : String} {ret : Option FieldType} {D : va_G} {tys : List (ClassId × FieldType)} {A : Nat → Prop} {cells slots : Nat} {Q : State → Prop} {ws : va_W} {pc : Nat} {lv : List (Nat × Value)} {st : List Value}
theorem j_lv {lv' : List (Nat × Value)} (ks : List Nat) (h : lv_pick lv ks = lv') (K : J p l e R s m args below meth c D A nL cells slots Q ws pc lv' st) : J p l e R s m args below meth c D A nL cells slots Q ws pc lv st := fun H locs ls hP hD hS hv => K H locs ls hP hD hS (lv_sub hv ks h)
theorem j_ws {ws' : va_W} (is : List Nat) (h1 : is.filterMap (fun i => ws[i]?) = ws') (h2 : va_nd is = true) (h3 : is.map (fun i => ws[i]?) = ws'.map some) (K : J p l e R s m args below meth c D A nL cells slots Q ws' pc lv st) : J p l e R s m args below meth c D A nL cells slots Q ws pc lv st := fun H locs ls hP hD hS hv => K H locs ls (hP.sub is h1) (hD.sub is h2 h3) hS hv
theorem j_wse {ws' : va_W} (h : ws = ws') (K : J p l e R s m args below meth c D A nL cells slots Q ws' pc lv st) : J p l e R s m args below meth c D A nL cells slots Q ws pc lv st := h ▸ K
theorem j_lve {lv' : List (Nat × Value)} (h : lv = lv') (K : J p l e R s m args below meth c D A nL cells slots Q ws pc lv' st) : J p l e R s m args below meth c D A nL cells slots Q ws pc lv st := h ▸ K
theorem j_top {x y : Int32} (h : x = y) (K : J p l e R s m args below meth c D A nL cells slots Q ws pc lv (.int y :: st)) : J p l e R s m args below meth c D A nL cells slots Q ws pc lv (.int x :: st) := h ▸ K
theorem j_top2 {x y : Int32} {v : Value} (h : x = y) (K : J p l e R s m args below meth c D A nL cells slots Q ws pc lv (v :: .int y :: st)) : J p l e R s m args below meth c D A nL cells slots Q ws pc lv (v :: .int x :: st) := h ▸ K
theorem j_iload_n (C : Cx p s m args meth c cc nL own ret D tys A) (k : Nat) {kk : Fin 4} {i : Nat} {x : Int32} {pc' : Nat} (hl : lv[k]? = some (i, .int x)) (hi : (kk : Nat) = i) (hd : decode cc pc = .ok (.iload_n kk, 1)) (hp : pc + 1 = pc') (K : J p l e R s m args below meth c D A nL cells slots Q ws pc' lv (.int x :: st)) : J p l e R s m args below meth c D A nL cells slots Q ws pc lv st := fun H locs ls hP hD hS hv => lv_iload_n C.1.1 C.1.2.1 hd hi (lv_at hv k hl) (hp ▸ K H locs ls hP hD hS hv)
theorem j_iload (C : Cx p s m args meth c cc nL own ret D tys A) (k : Nat) {i : Nat} {x : Int32} {pc' : Nat} (hl : lv[k]? = some (i, .int x)) (hd : decode cc pc = .ok (.iload i, 2)) (hp : pc + 2 = pc') (K : J p l e R s m args below meth c D A nL cells slots Q ws pc' lv (.int x :: st)) : J p l e R s m args below meth c D A nL cells slots Q ws pc lv st := fun H locs ls hP hD hS hv => lv_iload C.1.1 C.1.2.1 hd (lv_at hv k hl) (hp ▸ K H locs ls hP hD hS hv)
theorem j_aload_n (C : Cx p s m args meth c cc nL own ret D tys A) (k : Nat) {kk : Fin 4} {i x : Nat} {pc' : Nat} (hl : lv[k]? = some (i, .ref x)) (hi : (kk : Nat) = i) (hd : decode cc pc = .ok (.aload_n kk, 1)) (hp : pc + 1 = pc') (K : J p l e R s m args below meth c D A nL cells slots Q ws pc' lv (.ref x :: st)) : J p l e R s m args below meth c D A nL cells slots Q ws pc lv st := fun H locs ls hP hD hS hv => lv_aload_n C.1.1 C.1.2.1 hd hi (lv_at hv k hl) (hp ▸ K H locs ls hP hD hS hv)
theorem j_iconst (C : Cx p s m args meth c cc nL own ret D tys A) (v : Int32) {n : Int} {pc' : Nat} (hd : decode cc pc = .ok (.iconst n, 1)) (hv : Int32.ofInt n = v) (hp : pc + 1 = pc') (K : J p l e R s m args below meth c D A nL cells slots Q ws pc' lv (.int v :: st)) : J p l e R s m args below meth c D A nL cells slots Q ws pc lv st := fun H locs ls hP hD hS h => lv_iconst C.1.1 C.1.2.1 hd hv (hp ▸ K H locs ls hP hD hS h)
theorem j_bipush (C : Cx p s m args meth c cc nL own ret D tys A) (v : Int32) {n : Int} {pc' : Nat} (hd : decode cc pc = .ok (.bipush n, 2)) (hv : (Int8.ofInt n).toInt32 = v) (hp : pc + 2 = pc') (K : J p l e R s m args below meth c D A nL cells slots Q ws pc' lv (.int v :: st)) : J p l e R s m args below meth c D A nL cells slots Q ws pc lv st := fun H locs ls hP hD hS h => lv_bipush C.1.1 C.1.2.1 hd hv (hp ▸ K H locs ls hP hD hS h)
theorem j_sipush (C : Cx p s m args meth c cc nL own ret D tys A) (v : Int32) {n : Int} {pc' : Nat} (hd : decode cc pc = .ok (.sipush n, 3)) (hv : (Int16.ofInt n).toInt32 = v) (hp : pc + 3 = pc') (K : J p l e R s m args below meth c D A nL cells slots Q ws pc' lv (.int v :: st)) : J p l e R s m args below meth c D A nL cells slots Q ws pc lv st := fun H locs ls hP hD hS h => lv_sipush C.1.1 C.1.2.1 hd hv (hp ▸ K H locs ls hP hD hS h)
theorem j_ldc (C : Cx p s m args meth c cc nL own ret D tys A) {v : Int32} {index : Nat} {pc' : Nat} (hc : Jvm.Cond.constant own index v ∈ lw_all) (hd : decode cc pc = .ok (.ldc index, 2)) (hp : pc + 2 = pc') (K : J p l e R s m args below meth c D A nL cells slots Q ws pc' lv (.int v :: st)) : J p l e R s m args below meth c D A nL cells slots Q ws pc lv st := fun H locs ls hP hD hS h => lv_ldc C.1.1 C.1.2.1 C.1.2.2.2.1 (C.1.2.2.2.2 _ hc) hd (hp ▸ K H locs ls hP hD hS h)
theorem j_iadd (C : Cx p s m args meth c cc nL own ret D tys A) {x y : Int32} {pc' : Nat} (hd : decode cc pc = .ok (.iadd, 1)) (hp : pc + 1 = pc') (K : J p l e R s m args below meth c D A nL cells slots Q ws pc' lv (.int (x + y) :: st)) : J p l e R s m args below meth c D A nL cells slots Q ws pc lv (.int y :: .int x :: st) := fun H locs ls hP hD hS h => lv_iadd C.1.1 C.1.2.1 hd (hp ▸ K H locs ls hP hD hS h)
theorem j_isub (C : Cx p s m args meth c cc nL own ret D tys A) {x y : Int32} {pc' : Nat} (hd : decode cc pc = .ok (.isub, 1)) (hp : pc + 1 = pc') (K : J p l e R s m args below meth c D A nL cells slots Q ws pc' lv (.int (x - y) :: st)) : J p l e R s m args below meth c D A nL cells slots Q ws pc lv (.int y :: .int x :: st) := fun H locs ls hP hD hS h => lv_isub C.1.1 C.1.2.1 hd (hp ▸ K H locs ls hP hD hS h)
theorem j_imul (C : Cx p s m args meth c cc nL own ret D tys A) {x y : Int32} {pc' : Nat} (hd : decode cc pc = .ok (.imul, 1)) (hp : pc + 1 = pc') (K : J p l e R s m args below meth c D A nL cells slots Q ws pc' lv (.int (x * y) :: st)) : J p l e R s m args below meth c D A nL cells slots Q ws pc lv (.int y :: .int x :: st) := fun H locs ls hP hD hS h => lv_imul C.1.1 C.1.2.1 hd (hp ▸ K H locs ls hP hD hS h)
theorem j_iand (C : Cx p s m args meth c cc nL own ret D tys A) {x y : Int32} {pc' : Nat} (hd : decode cc pc = .ok (.iand, 1)) (hp : pc + 1 = pc') (K : J p l e R s m args below meth c D A nL cells slots Q ws pc' lv (.int (x &&& y) :: st)) : J p l e R s m args below meth c D A nL cells slots Q ws pc lv (.int y :: .int x :: st) := fun H locs ls hP hD hS h => lv_iand C.1.1 C.1.2.1 hd (hp ▸ K H locs ls hP hD hS h)
theorem j_ior (C : Cx p s m args meth c cc nL own ret D tys A) {x y : Int32} {pc' : Nat} (hd : decode cc pc = .ok (.ior, 1)) (hp : pc + 1 = pc') (K : J p l e R s m args below meth c D A nL cells slots Q ws pc' lv (.int (x ||| y) :: st)) : J p l e R s m args below meth c D A nL cells slots Q ws pc lv (.int y :: .int x :: st) := fun H locs ls hP hD hS h => lv_ior C.1.1 C.1.2.1 hd (hp ▸ K H locs ls hP hD hS h)
theorem j_ixor (C : Cx p s m args meth c cc nL own ret D tys A) {x y : Int32} {pc' : Nat} (hd : decode cc pc = .ok (.ixor, 1)) (hp : pc + 1 = pc') (K : J p l e R s m args below meth c D A nL cells slots Q ws pc' lv (.int (x ^^^ y) :: st)) : J p l e R s m args below meth c D A nL cells slots Q ws pc lv (.int y :: .int x :: st) := fun H locs ls hP hD hS h => lv_ixor C.1.1 C.1.2.1 hd (hp ▸ K H locs ls hP hD hS h)
theorem j_ishl (C : Cx p s m args meth c cc nL own ret D tys A) {x y : Int32} {pc' : Nat} (hd : decode cc pc = .ok (.ishl, 1)) (hp : pc + 1 = pc') (K : J p l e R s m args below meth c D A nL cells slots Q ws pc' lv (.int (x <<< (y &&& 31)) :: st)) : J p l e R s m args below meth c D A nL cells slots Q ws pc lv (.int y :: .int x :: st) := fun H locs ls hP hD hS h => lv_ishl C.1.1 C.1.2.1 hd (hp ▸ K H locs ls hP hD hS h)
theorem j_ishr (C : Cx p s m args meth c cc nL own ret D tys A) {x y : Int32} {pc' : Nat} (hd : decode cc pc = .ok (.ishr, 1)) (hp : pc + 1 = pc') (K : J p l e R s m args below meth c D A nL cells slots Q ws pc' lv (.int (x >>> (y &&& 31)) :: st)) : J p l e R s m args below meth c D A nL cells slots Q ws pc lv (.int y :: .int x :: st) := fun H locs ls hP hD hS h => lv_ishr C.1.1 C.1.2.1 hd (hp ▸ K H locs ls hP hD hS h)
theorem j_idiv (C : Cx p s m args meth c cc nL own ret D tys A) {x y : Int32} {pc' : Nat} (hne : ¬ y = 0) (hd : decode cc pc = .ok (.idiv, 1)) (hp : pc + 1 = pc') (K : J p l e R s m args below meth c D A nL cells slots Q ws pc' lv (.int (x / y) :: st)) : J p l e R s m args below meth c D A nL cells slots Q ws pc lv (.int y :: .int x :: st) := fun H locs ls hP hD hS h => lv_idiv C.1.1 C.1.2.1 hd hne (hp ▸ K H locs ls hP hD hS h)
theorem j_irem (C : Cx p s m args meth c cc nL own ret D tys A) {x y : Int32} {pc' : Nat} (hne : ¬ y = 0) (hd : decode cc pc = .ok (.irem, 1)) (hp : pc + 1 = pc') (K : J p l e R s m args below meth c D A nL cells slots Q ws pc' lv (.int (x - x / y * y) :: st)) : J p l e R s m args below meth c D A nL cells slots Q ws pc lv (.int y :: .int x :: st) := fun H locs ls hP hD hS h => lv_irem C.1.1 C.1.2.1 hd hne (hp ▸ K H locs ls hP hD hS h)
theorem j_ineg (C : Cx p s m args meth c cc nL own ret D tys A) {x : Int32} {pc' : Nat} (hd : decode cc pc = .ok (.ineg, 1)) (hp : pc + 1 = pc') (K : J p l e R s m args below meth c D A nL cells slots Q ws pc' lv (.int (-x) :: st)) : J p l e R s m args below meth c D A nL cells slots Q ws pc lv (.int x :: st) := fun H locs ls hP hD hS h => lv_ineg C.1.1 C.1.2.1 hd (hp ▸ K H locs ls hP hD hS h)
theorem j_dup2 (C : Cx p s m args meth c cc nL own ret D tys A) {va vb : Value} {pc' : Nat} (h1 : va.category = 1) (h2 : vb.category = 1) (hd : decode cc pc = .ok (.dup2, 1)) (hp : pc + 1 = pc') (K : J p l e R s m args below meth c D A nL cells slots Q ws pc' lv (va :: vb :: va :: vb :: st)) : J p l e R s m args below meth c D A nL cells slots Q ws pc lv (va :: vb :: st) := fun H locs ls hP hD hS h => lv_dup2_11 C.1.1 C.1.2.1 hd h1 h2 (hp ▸ K H locs ls hP hD hS h)
theorem j_dup (C : Cx p s m args meth c cc nL own ret D tys A) {va : Value} {pc' : Nat} (h1 : va.category = 1) (hd : decode cc pc = .ok (.dup, 1)) (hp : pc + 1 = pc') (K : J p l e R s m args below meth c D A nL cells slots Q ws pc' lv (va :: va :: st)) : J p l e R s m args below meth c D A nL cells slots Q ws pc lv (va :: st) := fun H locs ls hP hD hS h => lv_dup C.1.1 C.1.2.1 hd h1 (hp ▸ K H locs ls hP hD hS h)
theorem j_pop (C : Cx p s m args meth c cc nL own ret D tys A) {va : Value} {pc' : Nat} (h1 : va.category = 1) (hd : decode cc pc = .ok (.pop, 1)) (hp : pc + 1 = pc') (K : J p l e R s m args below meth c D A nL cells slots Q ws pc' lv st) : J p l e R s m args below meth c D A nL cells slots Q ws pc lv (va :: st) := fun H locs ls hP hD hS h => lv_pop C.1.1 C.1.2.1 hd h1 (hp ▸ K H locs ls hP hD hS h)
theorem j_goto (C : Cx p s m args meth c cc nL own ret D tys A) (tgt : Nat) {off : Int} (hd : decode cc pc = .ok (.goto off, 3)) (ht : (pc : Int) + off = (tgt : Int)) (K : J p l e R s m args below meth c D A nL cells slots Q ws tgt lv st) : J p l e R s m args below meth c D A nL cells slots Q ws pc lv st := fun H locs ls hP hD hS h => lv_goto C.1.1 C.1.2.1 hd ht (K H locs ls hP hD hS h)
theorem j_if_eq (C : Cx p s m args meth c cc nL own ret D tys A) (tgt : Nat) {x : Int32} {off : Int} {pc' : Nat} (hd : decode cc pc = .ok (.ifCond .eq off, 3)) (ht : (pc : Int) + off = (tgt : Int)) (hp : pc + 3 = pc') (kt : x = 0 → J p l e R s m args below meth c D A nL cells slots Q ws tgt lv st) (kf : ¬ x = 0 → J p l e R s m args below meth c D A nL cells slots Q ws pc' lv st) : J p l e R s m args below meth c D A nL cells slots Q ws pc lv (.int x :: st) := fun H locs ls hP hD hS h => lv_if_eq C.1.1 C.1.2.1 hd ht (fun q => kt q H locs ls hP hD hS h) (fun q => hp ▸ kf q H locs ls hP hD hS h)
theorem j_if_ne (C : Cx p s m args meth c cc nL own ret D tys A) (tgt : Nat) {x : Int32} {off : Int} {pc' : Nat} (hd : decode cc pc = .ok (.ifCond .ne off, 3)) (ht : (pc : Int) + off = (tgt : Int)) (hp : pc + 3 = pc') (kt : ¬ x = 0 → J p l e R s m args below meth c D A nL cells slots Q ws tgt lv st) (kf : x = 0 → J p l e R s m args below meth c D A nL cells slots Q ws pc' lv st) : J p l e R s m args below meth c D A nL cells slots Q ws pc lv (.int x :: st) := fun H locs ls hP hD hS h => lv_if_ne C.1.1 C.1.2.1 hd ht (fun q => kt q H locs ls hP hD hS h) (fun q => hp ▸ kf q H locs ls hP hD hS h)
theorem j_if_lt (C : Cx p s m args meth c cc nL own ret D tys A) (tgt : Nat) {x : Int32} {off : Int} {pc' : Nat} (hd : decode cc pc = .ok (.ifCond .lt off, 3)) (ht : (pc : Int) + off = (tgt : Int)) (hp : pc + 3 = pc') (kt : x < 0 → J p l e R s m args below meth c D A nL cells slots Q ws tgt lv st) (kf : ¬ x < 0 → J p l e R s m args below meth c D A nL cells slots Q ws pc' lv st) : J p l e R s m args below meth c D A nL cells slots Q ws pc lv (.int x :: st) := fun H locs ls hP hD hS h => lv_if_lt C.1.1 C.1.2.1 hd ht (fun q => kt q H locs ls hP hD hS h) (fun q => hp ▸ kf q H locs ls hP hD hS h)
theorem j_if_ge (C : Cx p s m args meth c cc nL own ret D tys A) (tgt : Nat) {x : Int32} {off : Int} {pc' : Nat} (hd : decode cc pc = .ok (.ifCond .ge off, 3)) (ht : (pc : Int) + off = (tgt : Int)) (hp : pc + 3 = pc') (kt : 0 ≤ x → J p l e R s m args below meth c D A nL cells slots Q ws tgt lv st) (kf : ¬ 0 ≤ x → J p l e R s m args below meth c D A nL cells slots Q ws pc' lv st) : J p l e R s m args below meth c D A nL cells slots Q ws pc lv (.int x :: st) := fun H locs ls hP hD hS h => lv_if_ge C.1.1 C.1.2.1 hd ht (fun q => kt q H locs ls hP hD hS h) (fun q => hp ▸ kf q H locs ls hP hD hS h)
theorem j_if_gt (C : Cx p s m args meth c cc nL own ret D tys A) (tgt : Nat) {x : Int32} {off : Int} {pc' : Nat} (hd : decode cc pc = .ok (.ifCond .gt off, 3)) (ht : (pc : Int) + off = (tgt : Int)) (hp : pc + 3 = pc') (kt : 0 < x → J p l e R s m args below meth c D A nL cells slots Q ws tgt lv st) (kf : ¬ 0 < x → J p l e R s m args below meth c D A nL cells slots Q ws pc' lv st) : J p l e R s m args below meth c D A nL cells slots Q ws pc lv (.int x :: st) := fun H locs ls hP hD hS h => lv_if_gt C.1.1 C.1.2.1 hd ht (fun q => kt q H locs ls hP hD hS h) (fun q => hp ▸ kf q H locs ls hP hD hS h)
theorem j_if_le (C : Cx p s m args meth c cc nL own ret D tys A) (tgt : Nat) {x : Int32} {off : Int} {pc' : Nat} (hd : decode cc pc = .ok (.ifCond .le off, 3)) (ht : (pc : Int) + off = (tgt : Int)) (hp : pc + 3 = pc') (kt : x ≤ 0 → J p l e R s m args below meth c D A nL cells slots Q ws tgt lv st) (kf : ¬ x ≤ 0 → J p l e R s m args below meth c D A nL cells slots Q ws pc' lv st) : J p l e R s m args below meth c D A nL cells slots Q ws pc lv (.int x :: st) := fun H locs ls hP hD hS h => lv_if_le C.1.1 C.1.2.1 hd ht (fun q => kt q H locs ls hP hD hS h) (fun q => hp ▸ kf q H locs ls hP hD hS h)
theorem j_icmp_eq (C : Cx p s m args meth c cc nL own ret D tys A) (tgt : Nat) {x y : Int32} {off : Int} {pc' : Nat} (hd : decode cc pc = .ok (.if_icmp .eq off, 3)) (ht : (pc : Int) + off = (tgt : Int)) (hp : pc + 3 = pc') (kt : x = y → J p l e R s m args below meth c D A nL cells slots Q ws tgt lv st) (kf : ¬ x = y → J p l e R s m args below meth c D A nL cells slots Q ws pc' lv st) : J p l e R s m args below meth c D A nL cells slots Q ws pc lv (.int y :: .int x :: st) := fun H locs ls hP hD hS h => lv_icmp_eq C.1.1 C.1.2.1 hd ht (fun q => kt q H locs ls hP hD hS h) (fun q => hp ▸ kf q H locs ls hP hD hS h)
theorem j_icmp_ne (C : Cx p s m args meth c cc nL own ret D tys A) (tgt : Nat) {x y : Int32} {off : Int} {pc' : Nat} (hd : decode cc pc = .ok (.if_icmp .ne off, 3)) (ht : (pc : Int) + off = (tgt : Int)) (hp : pc + 3 = pc') (kt : ¬ x = y → J p l e R s m args below meth c D A nL cells slots Q ws tgt lv st) (kf : x = y → J p l e R s m args below meth c D A nL cells slots Q ws pc' lv st) : J p l e R s m args below meth c D A nL cells slots Q ws pc lv (.int y :: .int x :: st) := fun H locs ls hP hD hS h => lv_icmp_ne C.1.1 C.1.2.1 hd ht (fun q => kt q H locs ls hP hD hS h) (fun q => hp ▸ kf q H locs ls hP hD hS h)
theorem j_icmp_lt (C : Cx p s m args meth c cc nL own ret D tys A) (tgt : Nat) {x y : Int32} {off : Int} {pc' : Nat} (hd : decode cc pc = .ok (.if_icmp .lt off, 3)) (ht : (pc : Int) + off = (tgt : Int)) (hp : pc + 3 = pc') (kt : x < y → J p l e R s m args below meth c D A nL cells slots Q ws tgt lv st) (kf : ¬ x < y → J p l e R s m args below meth c D A nL cells slots Q ws pc' lv st) : J p l e R s m args below meth c D A nL cells slots Q ws pc lv (.int y :: .int x :: st) := fun H locs ls hP hD hS h => lv_icmp_lt C.1.1 C.1.2.1 hd ht (fun q => kt q H locs ls hP hD hS h) (fun q => hp ▸ kf q H locs ls hP hD hS h)
theorem j_icmp_ge (C : Cx p s m args meth c cc nL own ret D tys A) (tgt : Nat) {x y : Int32} {off : Int} {pc' : Nat} (hd : decode cc pc = .ok (.if_icmp .ge off, 3)) (ht : (pc : Int) + off = (tgt : Int)) (hp : pc + 3 = pc') (kt : y ≤ x → J p l e R s m args below meth c D A nL cells slots Q ws tgt lv st) (kf : ¬ y ≤ x → J p l e R s m args below meth c D A nL cells slots Q ws pc' lv st) : J p l e R s m args below meth c D A nL cells slots Q ws pc lv (.int y :: .int x :: st) := fun H locs ls hP hD hS h => lv_icmp_ge C.1.1 C.1.2.1 hd ht (fun q => kt q H locs ls hP hD hS h) (fun q => hp ▸ kf q H locs ls hP hD hS h)
theorem j_icmp_gt (C : Cx p s m args meth c cc nL own ret D tys A) (tgt : Nat) {x y : Int32} {off : Int} {pc' : Nat} (hd : decode cc pc = .ok (.if_icmp .gt off, 3)) (ht : (pc : Int) + off = (tgt : Int)) (hp : pc + 3 = pc') (kt : y < x → J p l e R s m args below meth c D A nL cells slots Q ws tgt lv st) (kf : ¬ y < x → J p l e R s m args below meth c D A nL cells slots Q ws pc' lv st) : J p l e R s m args below meth c D A nL cells slots Q ws pc lv (.int y :: .int x :: st) := fun H locs ls hP hD hS h => lv_icmp_gt C.1.1 C.1.2.1 hd ht (fun q => kt q H locs ls hP hD hS h) (fun q => hp ▸ kf q H locs ls hP hD hS h)
theorem j_icmp_le (C : Cx p s m args meth c cc nL own ret D tys A) (tgt : Nat) {x y : Int32} {off : Int} {pc' : Nat} (hd : decode cc pc = .ok (.if_icmp .le off, 3)) (ht : (pc : Int) + off = (tgt : Int)) (hp : pc + 3 = pc') (kt : x ≤ y → J p l e R s m args below meth c D A nL cells slots Q ws tgt lv st) (kf : ¬ x ≤ y → J p l e R s m args below meth c D A nL cells slots Q ws pc' lv st) : J p l e R s m args below meth c D A nL cells slots Q ws pc lv (.int y :: .int x :: st) := fun H locs ls hP hD hS h => lv_icmp_le C.1.1 C.1.2.1 hd ht (fun q => kt q H locs ls hP hD hS h) (fun q => hp ▸ kf q H locs ls hP hD hS h)
theorem j_istore_n (C : Cx p s m args meth c cc nL own ret D tys A) (lv' : List (Nat × Value)) {kk : Fin 4} {i : Nat} {x : Int32} {pc' : Nat} (hi : (kk : Nat) = i) (hn : i < nL) (hl : (i, Value.int x) :: lv.filter (fun q => !(q.1 == i) && !(q.1 + 1 == i && q.2.category == 2)) = lv') (hd : decode cc pc = .ok (.istore_n kk, 1)) (hp : pc + 1 = pc') (K : J p l e R s m args below meth c D A nL cells slots Q ws pc' lv' st) : J p l e R s m args below meth c D A nL cells slots Q ws pc lv (.int x :: st) := fun H locs _ hP hD hS h => lv_istore_n C.1.1 C.1.2.1 hd hi h hn hl (fun ls' h' => hp ▸ K H locs ls' hP hD hS h')
theorem j_istore (C : Cx p s m args meth c cc nL own ret D tys A) (lv' : List (Nat × Value)) {i : Nat} {x : Int32} {pc' : Nat} (hn : i < nL) (hl : (i, Value.int x) :: lv.filter (fun q => !(q.1 == i) && !(q.1 + 1 == i && q.2.category == 2)) = lv') (hd : decode cc pc = .ok (.istore i, 2)) (hp : pc + 2 = pc') (K : J p l e R s m args below meth c D A nL cells slots Q ws pc' lv' st) : J p l e R s m args below meth c D A nL cells slots Q ws pc lv (.int x :: st) := fun H locs _ hP hD hS h => lv_istore C.1.1 C.1.2.1 hd h hn hl (fun ls' h' => hp ▸ K H locs ls' hP hD hS h')
theorem j_astore_n (C : Cx p s m args meth c cc nL own ret D tys A) (lv' : List (Nat × Value)) {kk : Fin 4} {i x : Nat} {pc' : Nat} (hi : (kk : Nat) = i) (hn : i < nL) (hl : (i, Value.ref x) :: lv.filter (fun q => !(q.1 == i) && !(q.1 + 1 == i && q.2.category == 2)) = lv') (hd : decode cc pc = .ok (.astore_n kk, 1)) (hp : pc + 1 = pc') (K : J p l e R s m args below meth c D A nL cells slots Q ws pc' lv' st) : J p l e R s m args below meth c D A nL cells slots Q ws pc lv (.ref x :: st) := fun H locs _ hP hD hS h => lv_astore_n C.1.1 C.1.2.1 hd hi h hn hl (fun ls' h' => hp ▸ K H locs ls' hP hD hS h')
theorem j_iinc (C : Cx p s m args meth c cc nL own ret D tys A) (lv' : List (Nat × Value)) (k : Nat) {i : Nat} {n : Int} {x v : Int32} {pc' : Nat} (hk : lv[k]? = some (i, .int x)) (hv : x + Int32.ofInt n = v) (hn : i < nL) (hl : (i, Value.int v) :: lv.filter (fun q => !(q.1 == i) && !(q.1 + 1 == i && q.2.category == 2)) = lv') (hd : decode cc pc = .ok (.iinc i n, 3)) (hp : pc + 3 = pc') (K : J p l e R s m args below meth c D A nL cells slots Q ws pc' lv' st) : J p l e R s m args below meth c D A nL cells slots Q ws pc lv st := fun H locs _ hP hD hS h => lv_iinc C.1.1 C.1.2.1 hd h hk hv hn hl (fun ls' h' => hp ▸ K H locs ls' hP hD hS h')
theorem j_get0 (C : Cx p s m args meth c cc nL RX0 ret D tys A) (k : Nat) {a : Nat} {fs : List Value} {v : Value} {index pc' : Nat} (he : ws[0]? = some (a, .inr (0, fs))) (hk : k < 7) (hL : Cond.fieldLink RX0 index RX0 (TX0 k).2.1 (TX0 k).2.2.1 ∈ lw_all) (hc : (TX0 k).1 = RX0) (hv : fs[k]? = some v) (hd : decode cc pc = .ok (.getfield index, 3)) (hp : pc + 3 = pc') (K : J p l e R s m args below meth c D A nL cells slots Q ws pc' lv (v :: st)) : J p l e R s m args below meth c D A nL cells slots Q ws pc lv (.ref a :: st) := fun H locs ls hP hD hS h => va_get (D := D) (ci := 0) (v := v) (C := RX0) (T := TX0) (N := 7) C.1.1 C.1.2.1 C.1.2.2.2.2 in_X0 C.1.2.2.2.1 C.2.2.2.1 hP 0 he rfl k hk (C.1.2.2.2.2 _ hL) (fun _ h9 => hc ▸ h9) hv hd (hp ▸ K H locs ls hP hD hS h)
theorem j_get1 (C : Cx p s m args meth c cc nL RX1 ret D tys A) (k : Nat) {a : Nat} {fs : List Value} {v : Value} {index pc' : Nat} (he : ws[0]? = some (a, .inr (1, fs))) (hk : k < 4) (hL : Cond.fieldLink RX1 index RX1 (TX1 k).2.1 (TX1 k).2.2.1 ∈ lw_all) (hc : (TX1 k).1 = RX1) (hv : fs[k]? = some v) (hd : decode cc pc = .ok (.getfield index, 3)) (hp : pc + 3 = pc') (K : J p l e R s m args below meth c D A nL cells slots Q ws pc' lv (v :: st)) : J p l e R s m args below meth c D A nL cells slots Q ws pc lv (.ref a :: st) := fun H locs ls hP hD hS h => va_get (D := D) (ci := 1) (v := v) (C := RX1) (T := TX1) (N := 4) C.1.1 C.1.2.1 C.1.2.2.2.2 in_X1 C.1.2.2.2.1 C.2.2.2.1 hP 0 he rfl k hk (C.1.2.2.2.2 _ hL) (fun _ h9 => hc ▸ h9) hv hd (hp ▸ K H locs ls hP hD hS h)
theorem j_ialdx (C : Cx p s m args meth c cc nL own ret D tys A) (q0 : Nat) {a n : Nat} {cA : ClassId} {f : Nat → Int32} {x : Int32} {pc' : Nat} (ha : ws[q0]? = some (a, .inl (cA, n, .inl f))) (ht : tys[0]? = some (cA, .int)) (hk : vp_in x n) (hd : decode cc pc = .ok (.iaload, 1)) (hp : pc + 1 = pc') (K : J p l e R s m args below meth c D A nL cells slots Q ws pc' lv (.int (f x.toNatClampNeg) :: st)) : J p l e R s m args below meth c D A nL cells slots Q ws pc lv (.int x :: .ref a :: st) := fun H locs ls hP hD hS h => va_iald C.1.1 C.1.2.1 C.2.2.2.1 hP q0 0 ha ht hk hd (hp ▸ K H locs ls hP hD hS h)
theorem j_iald (C : Cx p s m args meth c cc nL own ret D tys A) (q0 : Nat) {a n : Nat} {cA : ClassId} {f : Nat → Int32} {k : Nat} {pc' : Nat} (ha : ws[q0]? = some (a, .inl (cA, n, .inl f))) (ht : tys[0]? = some (cA, .int)) (hk : k < n) (hn : n < 2 ^ 31) (hd : decode cc pc = .ok (.iaload, 1)) (hp : pc + 1 = pc') (K : J p l e R s m args below meth c D A nL cells slots Q ws pc' lv (.int (f k) :: st)) : J p l e R s m args below meth c D A nL cells slots Q ws pc lv (.int (nI k) :: .ref a :: st) := j_ialdx C q0 ha ht (vp_in_nI hk hn) hd hp (by rw [nI_clamp (Nat.lt_trans hk hn)]; exact K)
theorem j_zald (C : Cx p s m args meth c cc nL own ret D tys A) (q0 : Nat) {a n : Nat} {cA : ClassId} {f : Nat → Int32} {k : Nat} {pc' : Nat} (ha : ws[q0]? = some (a, .inl (cA, n, .inl f))) (ht : tys[1]? = some (cA, .boolean)) (hk : k < n) (hn : n < 2 ^ 31) (hd : decode cc pc = .ok (.baload, 1)) (hp : pc + 1 = pc') (K : J p l e R s m args below meth c D A nL cells slots Q ws pc' lv (.int (f k) :: st)) : J p l e R s m args below meth c D A nL cells slots Q ws pc lv (.int (nI k) :: .ref a :: st) := fun H locs ls hP hD hS h => va_zald C.1.1 C.1.2.1 C.2.2.2.1 hP q0 1 ha ht (vp_in_nI hk hn) hd (by rw [nI_clamp (Nat.lt_trans hk hn)]; exact hp ▸ K H locs ls hP hD hS h)
theorem j_iast (C : Cx p s m args meth c cc nL own ret D tys A) (q0 : Nat) (ws' : va_W) {a n : Nat} {cA : ClassId} {f : Nat → Int32} {k : Nat} {x : Int32} {pc' : Nat} (ha : ws[q0]? = some (a, .inl (cA, n, .inl f))) (ht : tys[0]? = some (cA, .int)) (hk : k < n) (hn : n < 2 ^ 31) (hw : ws.set q0 (a, .inl (cA, n, .inl (upd f k x))) = ws') (hd : decode cc pc = .ok (.iastore, 1)) (hp : pc + 1 = pc') (K : J p l e R s m args below meth c D A nL cells slots Q ws' pc' lv st) : J p l e R s m args below meth c D A nL cells slots Q ws pc lv (.int x :: .int (nI k) :: .ref a :: st) := by
  subst hp
  intro H locs ls hP hD hS h
  refine va_iast C.1.1 C.1.2.1 C.2.2.2.1 hP hD hS q0 0 ha ht (vp_in_nI hk hn) hd (fun H1 locs1 hP1 hD1 hS1 => ?_)
  rw [nI_clamp (Nat.lt_trans hk hn), hw] at hP1 hD1
  exact K H1 locs1 ls hP1 hD1 hS1 h
theorem j_iastx (C : Cx p s m args meth c cc nL own ret D tys A) (q0 : Nat) (ws' : va_W) {a n : Nat} {cA : ClassId} {f : Nat → Int32} {i x : Int32} {pc' : Nat} (ha : ws[q0]? = some (a, .inl (cA, n, .inl f))) (ht : tys[0]? = some (cA, .int)) (hk : vp_in i n) (hw : ws.set q0 (a, .inl (cA, n, .inl (upd f i.toNatClampNeg x))) = ws') (hd : decode cc pc = .ok (.iastore, 1)) (hp : pc + 1 = pc') (K : J p l e R s m args below meth c D A nL cells slots Q ws' pc' lv st) : J p l e R s m args below meth c D A nL cells slots Q ws pc lv (.int x :: .int i :: .ref a :: st) := by
  subst hp
  intro H locs ls hP hD hS h
  refine va_iast C.1.1 C.1.2.1 C.2.2.2.1 hP hD hS q0 0 ha ht hk hd (fun H1 locs1 hP1 hD1 hS1 => ?_)
  rw [hw] at hP1 hD1
  exact K H1 locs1 ls hP1 hD1 hS1 h
theorem j_zast (C : Cx p s m args meth c cc nL own ret D tys A) (q0 : Nat) (ws' : va_W) {a n : Nat} {cA : ClassId} {f : Nat → Int32} {k : Nat} {x : Int32} {pc' : Nat} (ha : ws[q0]? = some (a, .inl (cA, n, .inl f))) (ht : tys[1]? = some (cA, .boolean)) (hk : k < n) (hn : n < 2 ^ 31) (hb : vp_nar .boolean x = x) (hw : ws.set q0 (a, .inl (cA, n, .inl (upd f k x))) = ws') (hd : decode cc pc = .ok (.bastore, 1)) (hp : pc + 1 = pc') (K : J p l e R s m args below meth c D A nL cells slots Q ws' pc' lv st) : J p l e R s m args below meth c D A nL cells slots Q ws pc lv (.int x :: .int (nI k) :: .ref a :: st) := by
  subst hp
  intro H locs ls hP hD hS h
  refine va_zast C.1.1 C.1.2.1 C.2.2.2.1 hP hD hS q0 1 ha ht (vp_in_nI hk hn) hd (fun H1 locs1 hP1 hD1 hS1 => ?_)
  rw [nI_clamp (Nat.lt_trans hk hn), hb, hw] at hP1 hD1
  exact K H1 locs1 ls hP1 hD1 hS1 h
/-- a method's end: the answer rv, the world W1, nothing else changed -/
def Qd (rv : Option Value) (D : va_G) (tys : List (ClassId × FieldType)) (W1 : va_W) (A : Nat → Prop) : Array Value → State → Outcome → State → Prop := fun _ st oc t => oc = .returned rv ∧ va_P D vwCl W1 t.heap ∧ va_K D vwCl tys t ∧ va_D A W1 ∧ va_F A st t
theorem j_iret (C : Cx p s m args meth c cc nL own (some .int) D tys A) {x : Int32} {W1 : va_W} (hw : ws = W1) (hd : decode cc pc = .ok (.ireturn, 1)) : J p l e R s m args below meth c D A nL cells slots (MQ below (Qd (some (.int x)) D tys W1 A) args s cells slots A) ws pc lv [.int x] := by
  subst hw
  intro H locs ls hP hD hS h
  exact W.iret C.1.1 C.1.2.1 C.2.1 (fun t ht hW => ⟨rfl, by rw [ht]; exact hP, va_K.moved hW.alike C.2.2.2.1, hD, hS.F ht⟩) hS.2.2 hd C.2.2.1
theorem j_zret (C : Cx p s m args meth c cc nL own (some .boolean) D tys A) {x : Int32} {W1 : va_W} (hn : narrow .boolean (.int x) = .int x) (hw : ws = W1) (hd : decode cc pc = .ok (.ireturn, 1)) : J p l e R s m args below meth c D A nL cells slots (MQ below (Qd (some (.int x)) D tys W1 A) args s cells slots A) ws pc lv [.int x] := by
  subst hw
  intro H locs ls hP hD hS h
  exact W.zret C.1.1 C.1.2.1 C.2.1 hn (fun t ht hW => ⟨rfl, by rw [ht]; exact hP, va_K.moved hW.alike C.2.2.2.1, hD, hS.F ht⟩) hS.2.2 hd C.2.2.1
theorem j_vret (C : Cx p s m args meth c cc nL own none D tys A) {W1 : va_W} (hw : ws = W1) (hd : decode cc pc = .ok (.return_, 1)) : J p l e R s m args below meth c D A nL cells slots (MQ below (Qd none D tys W1 A) args s cells slots A) ws pc lv [] := by
  subst hw
  intro H locs ls hP hD hS h
  exact W.vret C.1.1 C.1.2.1 C.2.1 (fun t ht hW => ⟨rfl, by rw [ht]; exact hP, va_K.moved hW.alike C.2.2.2.1, hD, hS.F ht⟩) hS.2.2 hd C.2.2.1
end JR
/-- a contract: called with the arguments As on the world W0, the method answers rv and leaves W1; nothing else changes, nothing is made -/
def Ctd (l : Launch) (y : MethodName) (cc : ByteArray) (nL : Nat) (ret : Option FieldType) (rm : Room) (As : List Value) (D : va_G) (tys : List (ClassId × FieldType)) (W0 : va_W) (rv : Option Value) (W1 : va_W) : Prop :=
  ∀ sz : Nat, Met l y (ws_ y cc nL ret) rm (va_Pc As (fun U => U.heap.size = sz ∧ va_P D vwCl W0 U.heap ∧ va_K D vwCl tys U ∧ va_D (fun _ => True) W0)) (Qd rv D tys W1 (va_A W0 sz)) 0 0 (va_A W0 sz)
theorem Ctd.ofJ {l : Launch} {y : MethodName} {cc : ByteArray} {nL : Nat} {ret : Option FieldType} {rm : Room} {As : List Value} {D : va_G} {tys : List (ClassId × FieldType)} {W0 : va_W} {rv : Option Value} {W1 : va_W} (hy : plainName y.cls = true) (hn : (lg_sl As).length ≤ nL)
    (body : ∀ (p : Program) (e : Env) (s : State) (m : MethodId) (below : List Frame) (meth : Method) (c : Code) (A : Nat → Prop), Cx p s m As.toArray meth c cc nL y.cls ret D tys A → J p l e (headSpec (ws_ y cc nL ret) rm).room s m As.toArray below meth c D A nL 0 0 (MQ below (Qd rv D tys W1 A) As.toArray s 0 0 A) W0 0 (lv_args 0 As) []) : Ctd l y cc nL ret rm As D tys W0 rv W1 := by
  intro sz
  refine Met.ofW (cc := cc) (maxL := nL) (ret := ret) hy rfl ?_
  intro p e s m args below meth c s₁ B hml hv
  obtain ⟨rfl, hsz, hP, hK, hD0⟩ := hv
  have hts := atoms_spec (ws := ws_ y cc nL ret) B.pre
  have hts : ∀ w ∈ lw_all, w.before _ s = true := fun w h => hts w (List.mem_cons_of_mem _ h)
  subst hsz
  have hD := hD0.self (sz := s.heap.size)
  rw [lg_entry_eq]
  exact body p e s m below meth c (va_A W0 s.heap.size) ⟨⟨B.exec, B.bytes, hml, findClass_of_methodNamed B.named, hts⟩, B.returns, B.notSynchronized, hK, fun q h => Or.inr h⟩ s.heap [] _ hP hD va_S.rf (lv_entry As hn)
section JC
variable {p : Program} {l : Launch} {e : Env} {R : Room} {s : State} {m : MethodId} {args : Array Value} {below : List Frame} {meth : Method} {c : Code} {cc : ByteArray} {nL : Nat} {own : String} {ret : Option FieldType} {D : va_G} {tys : List (ClassId × FieldType)} {A : Nat → Prop} {cells slots : Nat} {Q : State → Prop} {ws : va_W} {pc : Nat} {lv : List (Nat × Value)} {st : List Value}
theorem va_callD {H : Heap} {locs : List Loc} {ls : Array Slot} {rest st0 : List Value} {a : Array Value} {A1 : Nat → Prop} {H0 : Heap} {free : Addr → Prop} {rv : Option Value} {W1 : va_W} (hr : va_Run p l e R s m args below meth c H locs cells slots 0 0 (F0 m pc ls st0) rest (Qd rv D tys W1 A1 a) free) (hS : va_S A H0 H locs) (hA : ∀ q, q < H.size → A1 q → A q) (hf : ∀ q, free q → A q)
    (kk : ∀ (H1 : Heap) (locs1 : List Loc), va_P D vwCl W1 H1 → va_D A1 W1 → (∀ q : Nat, q < H.size → ¬ A1 q → H1[q]? = H[q]?) → va_S A H0 H1 locs1 → W p l e R s m args below meth c H1 locs1 cells slots Q (F0 m (pc + 3) ls (rv.toList ++ rest))) : W p l e R s m args below meth c H locs cells slots Q (F0 m pc ls st0) := by
  intro T hT X
  obtain ⟨v, st₀, t, T', L, h0, X', hL, e1, e2, ⟨hv, hb, -, hd1, hz, hk⟩, st⟩ := hr T hT X
  cases hv
  rw [h0] at hz hk
  obtain ⟨t2, a1, b1⟩ := kk T'.heap (locs ++ L) (by rw [e1]; exact hb) hd1 (fun q h1 h2 => by rw [e1]; exact hk q h1 h2)
    ⟨Nat.le_trans hS.1 (by rw [e1]; exact hz), fun q h1 h2 => by rw [e1, hk q (Nat.lt_of_lt_of_le h1 hS.1) (fun z => h2 (hA q (Nat.lt_of_lt_of_le h1 hS.1) z))]; exact hS.2.1 q h1 h2, fun q hq => by
      rcases List.mem_append.mp hq with h | h
      · exact hS.2.2 q h
      · exact hf _ (hL q h)⟩ T' rfl X'
  exact ⟨t2, st t2 a1, b1⟩
def dsc (y : MethodName) (n : Nat) : Prop := y.cls ≠ "java/lang/invoke/MethodHandle" ∧ y.cls ≠ "java/lang/invoke/VarHandle" ∧ (parseMethodDescriptor y.desc).map (fun d => d.parameters.length) = some n
theorem blindD {D : va_G} {tys : List (ClassId × FieldType)} {As : List Value} {sz : Nat} {W0 : va_W} {B : Nat → Prop} : FrameBlind (va_Pc As (fun U => U.heap.size = sz ∧ va_P D vwCl W0 U.heap ∧ va_K D vwCl tys U ∧ va_D B W0)) := fun a U g mk q => by
  obtain ⟨q0, q1, qP, qK, qD⟩ := q
  exact ⟨q0, q1, qP, va_K.moved (u := U) (U := U.calling g mk a) (Vm.Alike.refl U.vm) qK, qD⟩
theorem j_callS (C : Cx p s m args meth c cc nL own ret D tys A) {y : MethodName} {bc : ByteArray} {L idx n : Nat} {rt : Option FieldType} {rm : Room} {As rest : List Value} {rv : Option Value} {pc' : Nat} (hM : Ctd l y bc L rt rm As D tys [] rv []) (hl : Cond.methodLink own idx y ∈ lw_all) (hs : Cond.static y ∈ lw_all) (hi : Cond.initialized y.cls ∈ lw_all) (hc : Cond.code y bc L rt ∈ lw_all) (hy : dsc y n) (hrm : rm.cells = 0 ∧ rm.slots = 0) (hR : rm.frames + 1 ≤ R.frames ∧ 8 + (L + 11) + rm.locals ≤ R.locals) (hn : As.length = n) (hst : st = As.reverse ++ rest) (hcat : (rest.map fun v => v.category).sum ≤ 8) (hcs : cells ≤ R.cells ∧ slots ≤ R.slots) (hd : decode cc pc = .ok (.invokestatic idx, 3)) (hp : pc + 3 = pc') {st' : List Value} (he : rv.toList ++ rest = st') (K : J p l e R s m args below meth c D A nL cells slots Q ws pc' lv st') : J p l e R s m args below meth c D A nL cells slots Q ws pc lv st := by
  subst hp; subst he
  intro H locs ls hP hD hS h
  have hF : ∀ q, va_A ([] : va_W) H.size q → A q := fun q hq => by
    rcases hq with ⟨k, e, hq⟩ | hq
    · simp at hq
    · exact C.2.2.2.2 q (Nat.le_trans hS.1 hq)
  refine va_callD (va_runS (As := As) (rest := rest) C.1 (hM H.size) (va_cwS n C.1.2.2.2.2 (lw_S hl hs hi hc) rfl hrm.1 hrm.2 hy hR) ⟨blindD, fun U hU hW => ⟨rfl, by rw [hU], fun k q hk => by simp at hk, va_K.moved hW.alike C.2.2.2.1, ⟨fun i j a b hi => by simp at hi, fun k q hk => by simp at hk⟩⟩⟩ rfl hn h.1 hst (lv_room hcat) hd hcs) hS (fun q _ hq => hF q hq) hF (fun H1 locs1 _ _ hk1 hS1 => ?_)
  refine K H1 locs1 ls (hP.kept (fun k q hk => hk1 q.1 (hP k q hk).lt ?_)) hD hS1 h
  rintro (⟨k2, e2, h2⟩ | h2)
  · simp at h2
  · exact absurd (hP k q hk).lt (Nat.not_lt.mpr h2)
theorem j_callV (C : Cx p s m args meth c cc nL own ret D tys A) {y : MethodName} {bc : ByteArray} {L idx n ci b : Nat} {rt : Option FieldType} {rm : Room} {As rest fs : List Value} {rv : Option Value} {W1 : va_W} {cq : vw_C} {pc' : Nat} (hM : Ctd l y bc L rt rm (.ref b :: As) D tys ws rv W1) (hl : Cond.methodLink own idx y ∈ lw_all) (hin : Cond.instanceMethod y ∈ lw_all) (hse : Cond.selects y.cls y y ∈ lw_all) (hi : Cond.initialized y.cls ∈ lw_all) (hc : Cond.code y bc L rt ∈ lw_all) (hy : dsc y n) (hrm : rm.cells = 0 ∧ rm.slots = 0) (hR : rm.frames + 1 ≤ R.frames ∧ 8 + (L + 11) + rm.locals ≤ R.locals) (hn : As.length = n) (h0 : ws[0]? = some (b, .inr (ci, fs))) (hcl : vwCl[ci]? = some cq) (hcq : cq.1 = y.cls) (hst : st = As.reverse ++ .ref b :: rest) (hcat : (rest.map fun v => v.category).sum ≤ 8) (hcs : cells ≤ R.cells ∧ slots ≤ R.slots) (hd : decode cc pc = .ok (.invokevirtual idx, 3)) (hp : pc + 3 = pc') {st' : List Value} (he : rv.toList ++ rest = st') (K : J p l e R s m args below meth c D A nL cells slots Q W1 pc' lv st') : J p l e R s m args below meth c D A nL cells slots Q ws pc lv st := by
  subst hp; subst he
  intro H locs ls hP hD hS h
  have hF : ∀ q, va_A ws H.size q → A q := fun q hq => by
    rcases hq with ⟨k, e, hq⟩ | hq
    · exact hD.2 k _ hq
    · exact C.2.2.2.2 q (Nat.le_trans hS.1 hq)
  refine va_callD (va_runV (As := As) (rest := rest) C.1 (hM H.size) (cwV (C := y.cls) n C.1.2.2.2.2 (lw_V hl hin hse hi hc) rfl hrm.1 hrm.2 ⟨rfl, hy⟩ hR) ⟨blindD, by rw [← hcq]; exact va_recv C.2.2.2.1 hP hcl h0, fun U hU hW => ⟨rfl, by rw [hU], by rw [hU]; exact hP, va_K.moved hW.alike C.2.2.2.1, hD.weaken (fun _ _ _ _ => trivial)⟩⟩ rfl hn h.1 hst (lv_room hcat) hd hcs) hS (fun q _ hq => hF q hq) hF (fun H1 locs1 hP1 hD1 _ hS1 => ?_)
  exact K H1 locs1 ls hP1 (hD1.weaken (fun _ _ _ hq => hF _ hq)) hS1 h
/-- a call on a part wc of the world; the rest wr stays -/
theorem j_callP (C : Cx p s m args meth c cc nL own ret D tys A) {y : MethodName} {bc : ByteArray} {L idx n ci b : Nat} {rt : Option FieldType} {rm : Room} {As rest fs : List Value} {rv : Option Value} {wc wr W1 : va_W} {cq : vw_C} {pc' : Nat} (isC isR : List Nat) (hM : Ctd l y bc L rt rm (.ref b :: As) D tys wc rv W1) (hCs : isC.filterMap (fun i => ws[i]?) = wc) (hCm : isC.map (fun i => ws[i]?) = wc.map some) (hCn : va_nd isC = true) (hRm : isR.map (fun i => ws[i]?) = wr.map some) (hRn : va_nd isR = true) (hdis : ∀ i ∈ isR, i ∉ isC) (hl : Cond.methodLink own idx y ∈ lw_all) (hin : Cond.instanceMethod y ∈ lw_all) (hse : Cond.selects y.cls y y ∈ lw_all) (hi : Cond.initialized y.cls ∈ lw_all) (hc : Cond.code y bc L rt ∈ lw_all) (hy : dsc y n) (hrm : rm.cells = 0 ∧ rm.slots = 0) (hR : rm.frames + 1 ≤ R.frames ∧ 8 + (L + 11) + rm.locals ≤ R.locals) (hn : As.length = n) (h0 : wc[0]? = some (b, .inr (ci, fs))) (hcl : vwCl[ci]? = some cq) (hcq : cq.1 = y.cls) (hst : st = As.reverse ++ .ref b :: rest) (hcat : (rest.map fun v => v.category).sum ≤ 8) (hcs : cells ≤ R.cells ∧ slots ≤ R.slots) (hd : decode cc pc = .ok (.invokevirtual idx, 3)) (hp : pc + 3 = pc') {st' : List Value} (he : rv.toList ++ rest = st') {ws' : va_W} (hw : wr ++ W1 = ws') (K : J p l e R s m args below meth c D A nL cells slots Q ws' pc' lv st') : J p l e R s m args below meth c D A nL cells slots Q ws pc lv st := by
  subst hp; subst he; subst hw
  intro H locs ls hP hD hS h
  have hF := va_free (wc := wc) hD hS C.2.2.2.2 isC hCm
  have hPc := hP.sub isC hCs
  have hDc := hD.sub isC hCn hCm
  refine va_callD (va_runV (As := As) (rest := rest) C.1 (hM H.size) (cwV (C := y.cls) n C.1.2.2.2.2 (lw_V hl hin hse hi hc) rfl hrm.1 hrm.2 ⟨rfl, hy⟩ hR) ⟨blindD, by rw [← hcq]; exact va_recv C.2.2.2.1 hPc hcl h0, fun U hU hW => ⟨rfl, by rw [hU], by rw [hU]; exact hPc, va_K.moved hW.alike C.2.2.2.1, hDc.weaken (fun _ _ _ _ => trivial)⟩⟩ rfl hn h.1 hst (lv_room hcat) hd hcs) hS (fun q _ hq => hF q hq) hF (fun H1 locs1 hP1 hD1 hk1 hS1 => ?_)
  obtain ⟨hP2, hD2⟩ := va_join hP hD isC isR hCm hRm hRn hdis hk1 hF hP1 hD1
  exact K H1 locs1 ls hP2 hD2 hS1 h
end JC
end
section
/-! worlds, rooms, loops as functions, and the rules that walk them -/
abbrev rmk (f n : Nat) : Room := { frames := f, cells := 0, slots := 0, locals := n }
abbrev gW (h : Nat) (q : Nat → Nat) (dZ dB : ClassId) (cap clo use len set par que : Nat → Int32) : va_W := [(h, .inr (0, [.ref (q 0), .ref (q 1), .ref (q 2), .ref (q 3), .ref (q 4), .ref (q 5), .ref (q 6)])), (q 0, .inl (dZ, 17, .inl cap)), (q 1, .inl (dB, 17, .inl clo)), (q 2, .inl (dZ, 17, .inl use)), (q 3, .inl (dZ, 8, .inl len)), (q 4, .inl (dB, 8, .inl set)), (q 5, .inl (dZ, 12, .inl par)), (q 6, .inl (dZ, 12, .inl que))]
abbrev mW (h : Nat) (q : Nat → Nat) (dZ dB : ClassId) (siz shu one two : Nat → Int32) : va_W := [(h, .inr (1, [.ref (q 0), .ref (q 1), .ref (q 2), .ref (q 3)])), (q 0, .inl (dZ, 17, .inl siz)), (q 1, .inl (dB, 17, .inl shu)), (q 2, .inl (dZ, 17, .inl one)), (q 3, .inl (dZ, 17, .inl two))]
abbrev tyZ (dZ dB : ClassId) : List (ClassId × FieldType) := [(dZ, .int), (dB, .boolean)]
theorem Ctd.ofJi {l : Launch} {y : MethodName} {cc : ByteArray} {nL : Nat} {rm : Room} {As : List Value} {D : va_G} {tys : List (ClassId × FieldType)} {W0 : va_W} {v : Int32} {W1 : va_W} (hy : plainName y.cls = true) (hn : (lg_sl As).length ≤ nL)
    (body : ∀ (p : Program) (e : Env) (s : State) (m : MethodId) (args : Array Value) (below : List Frame) (meth : Method) (c : Code) (A : Nat → Prop) (Q : State → Prop), Cx p s m args meth c cc nL y.cls (some .int) D tys A → (∀ pc lv, decode cc pc = .ok (.ireturn, 1) → J p l e rm s m args below meth c D A nL 0 0 Q W1 pc lv [.int v]) → J p l e rm s m args below meth c D A nL 0 0 Q W0 0 (lv_args 0 As) []) : Ctd l y cc nL (some .int) rm As D tys W0 (some (.int v)) W1 :=
  Ctd.ofJ hy hn (fun p e s m below meth c A C => body p e s m _ below meth c A _ C (fun _ _ d => j_iret C rfl d))
theorem Ctd.ofJz {l : Launch} {y : MethodName} {cc : ByteArray} {nL : Nat} {rm : Room} {As : List Value} {D : va_G} {tys : List (ClassId × FieldType)} {W0 : va_W} {v : Int32} {W1 : va_W} (hy : plainName y.cls = true) (hn : (lg_sl As).length ≤ nL) (hz : narrow .boolean (.int v) = .int v)
    (body : ∀ (p : Program) (e : Env) (s : State) (m : MethodId) (args : Array Value) (below : List Frame) (meth : Method) (c : Code) (A : Nat → Prop) (Q : State → Prop), Cx p s m args meth c cc nL y.cls (some .boolean) D tys A → (∀ pc lv, decode cc pc = .ok (.ireturn, 1) → J p l e rm s m args below meth c D A nL 0 0 Q W1 pc lv [.int v]) → J p l e rm s m args below meth c D A nL 0 0 Q W0 0 (lv_args 0 As) []) : Ctd l y cc nL (some .boolean) rm As D tys W0 (some (.int v)) W1 :=
  Ctd.ofJ hy hn (fun p e s m below meth c A C => body p e s m _ below meth c A _ C (fun _ _ d => j_zret C hz rfl d))
theorem Ctd.ofJv {l : Launch} {y : MethodName} {cc : ByteArray} {nL : Nat} {rm : Room} {As : List Value} {D : va_G} {tys : List (ClassId × FieldType)} {W0 : va_W} {W1 : va_W} (hy : plainName y.cls = true) (hn : (lg_sl As).length ≤ nL)
    (body : ∀ (p : Program) (e : Env) (s : State) (m : MethodId) (args : Array Value) (below : List Frame) (meth : Method) (c : Code) (A : Nat → Prop) (Q : State → Prop), Cx p s m args meth c cc nL y.cls none D tys A → (∀ pc lv, decode cc pc = .ok (.return_, 1) → J p l e rm s m args below meth c D A nL 0 0 Q W1 pc lv []) → J p l e rm s m args below meth c D A nL 0 0 Q W0 0 (lv_args 0 As) []) : Ctd l y cc nL none rm As D tys W0 none W1 :=
  Ctd.ofJ hy hn (fun p e s m below meth c A C => body p e s m _ below meth c A _ C (fun _ _ d => j_vret C rfl d))
/-- the three loops are not unfolded by the checker on its own: rows lpF_0 .. do it -/
def lpF {σ : Type} (f : Nat → σ → σ) (n i : Nat) (s : σ) : σ := match n with
  | 0 => s
  | n + 1 => lpF f n (i + 1) (f i s)
termination_by n
/-- a loop that may break: (true, s') goes on, (false, s') leaves -/
def lpB {σ : Type} (f : Nat → σ → Bool × σ) (n i : Nat) (s : σ) : σ := match n with
  | 0 => s
  | n + 1 => if (f i s).1 = true then lpB f n (i + 1) (f i s).2 else (f i s).2
termination_by n
/-- a loop out of which the method may return -/
def lpE {σ ρ : Type} (f : Nat → σ → σ ⊕ ρ) (n i : Nat) (s : σ) : σ ⊕ ρ := match n with
  | 0 => .inl s
  | n + 1 => match f i s with
    | .inl s' => lpE f n (i + 1) s'
    | .inr r => .inr r
termination_by n
theorem lpF_0 {σ : Type} (f : Nat → σ → σ) (i : Nat) (s : σ) : lpF f 0 i s = s := by unfold lpF; rfl
theorem lpF_s {σ : Type} (f : Nat → σ → σ) (n i : Nat) (s : σ) : lpF f (n + 1) i s = lpF f n (i + 1) (f i s) := by rw [lpF]
theorem lpB_0 {σ : Type} (f : Nat → σ → Bool × σ) (i : Nat) (s : σ) : lpB f 0 i s = s := by unfold lpB; rfl
theorem lpB_s {σ : Type} (f : Nat → σ → Bool × σ) (n i : Nat) (s : σ) : lpB f (n + 1) i s = if (f i s).1 = true then lpB f n (i + 1) (f i s).2 else (f i s).2 := by rw [lpB]
theorem lpE_0 {σ ρ : Type} (f : Nat → σ → σ ⊕ ρ) (i : Nat) (s : σ) : lpE f 0 i s = .inl s := by unfold lpE; rfl
theorem lpE_l {σ ρ : Type} (f : Nat → σ → σ ⊕ ρ) (n i : Nat) (s s' : σ) (h : f i s = .inl s') : lpE f (n + 1) i s = lpE f n (i + 1) s' := by rw [lpE, h]
theorem lpE_r {σ ρ : Type} (f : Nat → σ → σ ⊕ ρ) (n i : Nat) (s : σ) (r : ρ) (h : f i s = .inr r) : lpE f (n + 1) i s = .inr r := by rw [lpE, h]
theorem lpF_rule {σ : Type} (f : Nat → σ → σ) (N : Nat) (hd : Nat → σ → Prop) (ex : σ → Prop) (I : Nat → σ → Prop) (hx : ∀ s, I N s → ex s → hd N s) (hs : ∀ i s, i < N → I i s → (∀ s', s' = f i s → hd (i + 1) s') → hd i s) (hI : ∀ i s, i < N → I i s → I (i + 1) (f i s)) : ∀ n i s, i + n = N → I i s → (I N (lpF f n i s) → ex (lpF f n i s)) → hd i s := by
  intro n
  induction n with
  | zero =>
    intro i s h hi he
    have : i = N := by omega
    subst this
    rw [lpF_0] at he
    exact hx s hi (he hi)
  | succ n ih =>
    intro i s h hi he
    rw [lpF_s] at he
    refine hs i s (by omega) hi (fun s' e => ?_)
    subst e
    exact ih (i + 1) _ (by omega) (hI i s (by omega) hi) he
theorem lpF_rule0 {σ : Type} (f : Nat → σ → σ) (N : Nat) (hd : Nat → σ → Prop) (ex : σ → Prop) (hx : ∀ s, ex s → hd N s) (hs : ∀ i s, i < N → (∀ s', s' = f i s → hd (i + 1) s') → hd i s) (s0 : σ) (he : ex (lpF f N 0 s0)) : hd 0 s0 :=
  lpF_rule f N hd ex (fun _ _ => True) (fun s _ => hx s) (fun i s h _ => hs i s h) (fun _ _ _ _ => trivial) N 0 s0 (Nat.zero_add N) trivial (fun _ => he)
theorem lpB_rule {σ : Type} (f : Nat → σ → Bool × σ) (N : Nat) (hd : Nat → σ → Prop) (ex : σ → Prop) (I : Nat → σ → Prop) (hx : ∀ s, I N s → ex s → hd N s) (hs : ∀ i s, i < N → I i s → (∀ s', (true, s') = f i s → hd (i + 1) s') → (∀ s', (false, s') = f i s → ex s') → hd i s) (hI : ∀ i s s', i < N → I i s → (true, s') = f i s → I (i + 1) s') : ∀ n i s, i + n = N → I i s → ex (lpB f n i s) → hd i s := by
  intro n
  induction n with
  | zero =>
    intro i s h hi he
    have : i = N := by omega
    subst this
    rw [lpB_0] at he
    exact hx s hi he
  | succ n ih =>
    intro i s h hi he
    rw [lpB_s] at he
    refine hs i s (by omega) hi (fun s' e => ?_) (fun s' e => ?_)
    · refine ih (i + 1) _ (by omega) (hI i s s' (by omega) hi e) ?_
      rw [← e, if_pos rfl] at he
      exact he
    · rw [← e, if_neg (fun h => Bool.noConfusion h)] at he
      exact he
theorem lpE_rule {σ ρ : Type} (f : Nat → σ → σ ⊕ ρ) (N : Nat) (hd : Nat → σ → Prop) (ex1 : σ → Prop) (ex2 : ρ → Prop) (I : Nat → σ → Prop) (hx : ∀ s, I N s → ex1 s → hd N s) (hs : ∀ i s, i < N → I i s → (∀ s', .inl s' = f i s → hd (i + 1) s') → (∀ r, .inr r = f i s → ex2 r) → hd i s) (hI : ∀ i s s', i < N → I i s → .inl s' = f i s → I (i + 1) s') : ∀ n i s, i + n = N → I i s → (∀ s', lpE f n i s = .inl s' → I N s' → ex1 s') → (∀ r, lpE f n i s = .inr r → ex2 r) → hd i s := by
  intro n
  induction n with
  | zero =>
    intro i s h hi h1 h2
    have : i = N := by omega
    subst this
    exact hx s hi (h1 s (lpE_0 f i s) hi)
  | succ n ih =>
    intro i s h hi h1 h2
    refine hs i s (by omega) hi (fun s' e => ?_) (fun r e => ?_)
    · refine ih (i + 1) _ (by omega) (hI i s s' (by omega) hi e) (fun s2 h => h1 s2 ?_) (fun r h => h2 r ?_)
      · rw [lpE_l f n i s s' e.symm]; exact h
      · rw [lpE_l f n i s s' e.symm]; exact h
    · exact h2 r (lpE_r f n i s r e.symm)
end
section
set_option maxRecDepth 100000
def bt (x : Int32) (i : Nat) : Bool := x.toBitVec.getLsbD i
theorem b_ext {x y : Int32} (h : ∀ i, i < 32 → bt x i = bt y i) : x = y := Int32.toBitVec_inj.mp (BitVec.eq_of_getLsbD_eq (fun i hi => h i hi))
theorem b_or (x y : Int32) (i : Nat) : bt (x ||| y) i = (bt x i || bt y i) := by unfold bt; rw [Int32.toBitVec_or, BitVec.getLsbD_or]
theorem b_and (x y : Int32) (i : Nat) : bt (x &&& y) i = (bt x i && bt y i) := by unfold bt; rw [Int32.toBitVec_and, BitVec.getLsbD_and]
theorem b_xor (x y : Int32) (i : Nat) : bt (x ^^^ y) i = (bt x i ^^ bt y i) := by unfold bt; rw [Int32.toBitVec_xor, BitVec.getLsbD_xor]
theorem b_big {x : Int32} {i : Nat} (h : 32 ≤ i) : bt x i = false := BitVec.getLsbD_of_ge _ _ h
theorem b_255 (i : Nat) : bt 255 i = decide (i < 8) := by
  rcases Nat.lt_or_ge i 32 with h | h
  · exact (by decide +kernel : ∀ i, i < 32 → bt 255 i = decide (i < 8)) i h
  · rw [b_big h, decide_eq_false (by omega)]
theorem b_65535 (i : Nat) : bt 65535 i = decide (i < 16) := by
  rcases Nat.lt_or_ge i 32 with h | h
  · exact (by decide +kernel : ∀ i, i < 32 → bt 65535 i = decide (i < 16)) i h
  · rw [b_big h, decide_eq_false (by omega)]
theorem b_m1 : ∀ i, i < 32 → bt (-1) i = true := by decide +kernel
theorem b_0 (i : Nat) : bt 0 i = false := BitVec.getLsbD_zero
theorem s_l : ∀ n, n < 32 → ((nI n &&& 31).toBitVec.smod 32).toNat = n := by decide +kernel
theorem s_u : ∀ n, n < 32 → (((nI n).toUInt32 &&& Int32.toUInt32 31).toBitVec % 32).toNat = n := by decide +kernel
theorem b_shl (n : Nat) (hn : n < 32) (x : Int32) {i : Nat} (hi : i < 32) : bt (x <<< (nI n &&& 31)) i = (decide (n ≤ i) && bt x (i - n)) := by
  unfold bt
  rw [Int32.toBitVec_shiftLeft]
  show (x.toBitVec <<< ((nI n &&& 31).toBitVec.smod 32).toNat).getLsbD i = _
  rw [s_l n hn, BitVec.getLsbD_shiftLeft]
  rcases Nat.lt_or_ge i n with h | h
  · simp [h, Nat.not_le.mpr h]
  · simp [hi, h, Nat.not_lt.mpr h]
theorem b_ushr (n : Nat) (hn : n < 32) (x : Int32) (i : Nat) : bt ((x.toUInt32 >>> ((nI n).toUInt32 &&& Int32.toUInt32 31)).toInt32) i = bt x (n + i) := by
  show (x.toUInt32 >>> ((nI n).toUInt32 &&& Int32.toUInt32 31)).toBitVec.getLsbD i = x.toUInt32.toBitVec.getLsbD (n + i)
  rw [UInt32.toBitVec_shiftRight]
  show (x.toUInt32.toBitVec >>> (((nI n).toUInt32 &&& Int32.toUInt32 31).toBitVec % 32).toNat).getLsbD i = _
  rw [s_u n hn, BitVec.getLsbD_ushiftRight]
theorem b_sshr (n : Nat) (hn : n < 32) (x : Int32) {i : Nat} (hi : i < 32) : bt (x >>> (nI n &&& 31)) i = if n + i < 32 then bt x (n + i) else bt x 31 := by
  unfold bt
  rw [Int32.toBitVec_shiftRight]
  show (x.toBitVec.sshiftRight ((nI n &&& 31).toBitVec.smod 32).toNat).getLsbD i = _
  rw [s_l n hn, BitVec.getLsbD_sshiftRight, BitVec.msb_eq_getLsbD_last]
  simp [hi]
/-! ===== bits as the bytecode asks them; loops ===== -/
theorem b_1 (i : Nat) : bt 1 i = decide (i = 0) := by
  rcases Nat.lt_or_ge i 32 with h | h
  · exact (by decide +kernel : ∀ i, i < 32 → bt 1 i = decide (i = 0)) i h
  · rw [b_big h, decide_eq_false (by omega)]
theorem bI_if (x : Int32) {c : Nat} (hc : c < 31) : (x >>> (nI c &&& 31)) &&& 1 = if bt x c = true then 1 else 0 := by
  apply b_ext
  intro i hi
  rw [b_and, b_1, b_sshr c (by omega) x hi]
  by_cases h0 : i = 0
  · subst h0
    rw [if_pos (by omega)]
    cases h : bt x c
    · simp [h, b_0]
    · simp [h, b_1]
  · rw [decide_eq_false h0, Bool.and_false]
    cases h : bt x c
    · simp [b_0]
    · simp [b_1, h0]
theorem bI_1 {x : Int32} {c : Nat} (hc : c < 31) : (x >>> (nI c &&& 31)) &&& 1 = 1 ↔ bt x c = true := by
  rw [bI_if x hc]
  cases bt x c <;> decide
theorem bI_0 {x : Int32} {c : Nat} (hc : c < 31) : (x >>> (nI c &&& 31)) &&& 1 = 0 ↔ bt x c = false := by
  rw [bI_if x hc]
  cases bt x c <;> decide
theorem bt_set (x : Int32) {o c : Nat} (ho : o < 32) (hc : c < 32) : bt (x ||| (1 <<< (nI o &&& 31))) c = (bt x c || decide (c = o)) := by
  rw [b_or, b_shl o ho 1 hc, b_1]
  by_cases h : c = o
  · subst h; simp
  · rw [decide_eq_false h]
    by_cases h2 : o ≤ c
    · rw [decide_eq_false (show ¬ c - o = 0 by omega)]; simp
    · rw [decide_eq_false h2]; simp
theorem lpF_inv {σ : Type} (f : Nat → σ → σ) (I : Nat → σ → Prop) (N : Nat) (hI : ∀ i s, i < N → I i s → I (i + 1) (f i s)) : ∀ n i s, i + n = N → I i s → I N (lpF f n i s) := by
  intro n
  induction n with
  | zero => intro i s h hi; have : i = N := by omega
            subst this; rw [lpF_0]; exact hi
  | succ n ih => intro i s h hi; rw [lpF_s]; exact ih (i + 1) _ (by omega) (hI i s (by omega) hi)
theorem lpB_inv {σ : Type} (f : Nat → σ → Bool × σ) (I : Nat → σ → Prop) (X : σ → Prop) (N : Nat) (hI : ∀ i s s', i < N → I i s → f i s = (true, s') → I (i + 1) s') (hX : ∀ i s s', i < N → I i s → f i s = (false, s') → X s') (hN : ∀ s, I N s → X s) : ∀ n i s, i + n = N → I i s → X (lpB f n i s) := by
  intro n
  induction n with
  | zero => intro i s h hi; have : i = N := by omega
            subst this; rw [lpB_0]; exact hN s hi
  | succ n ih =>
    intro i s h hi
    rw [lpB_s]
    cases hf : f i s with
    | mk b s' =>
      cases b with
      | true => rw [if_pos rfl]; exact ih (i + 1) s' (by omega) (hI i s s' (by omega) hi hf)
      | false => rw [if_neg (fun h => Bool.noConfusion h)]; exact hX i s s' (by omega) hi hf
theorem lpE_inv {σ ρ : Type} (f : Nat → σ → σ ⊕ ρ) (I : Nat → σ → Prop) (X : ρ → Prop) (N : Nat) (hI : ∀ i s s', i < N → I i s → f i s = .inl s' → I (i + 1) s') (hX : ∀ i s r, i < N → I i s → f i s = .inr r → X r) : ∀ n i s, i + n = N → I i s → (∀ s', lpE f n i s = .inl s' → I N s') ∧ (∀ r, lpE f n i s = .inr r → X r) := by
  intro n
  induction n with
  | zero => intro i s h hi
            have : i = N := by omega
            subst this
            rw [lpE_0]
            refine ⟨fun s' h => ?_, fun r h => ?_⟩
            · cases h; exact hi
            · cases h
  | succ n ih =>
    intro i s h hi
    cases hf : f i s with
    | inl s1 => rw [lpE_l f n i s s1 hf]; exact ih (i + 1) s1 (by omega) (hI i s s1 (by omega) hi hf)
    | inr r1 =>
      rw [lpE_r f n i s r1 hf]
      refine ⟨fun s' h => ?_, fun r h => ?_⟩
      · cases h
      · cases h
        exact hX i s r1 (by omega) hi hf
theorem upd_s (f : Nat → Int32) (k : Nat) (x : Int32) : upd f k x k = x := pk_us
theorem upd_n (f : Nat → Int32) {k j : Nat} (x : Int32) (h : j ≠ k) : upd f k x j = f j := pk_un h
theorem upd_upd (f : Nat → Int32) (k : Nat) (x y : Int32) : upd (upd f k x) k y = upd f k y := by
  funext j
  by_cases h : j = k
  · subst h; rw [upd_s, upd_s]
  · rw [upd_n _ _ h, upd_n _ _ h, upd_n _ _ h]
theorem upd_self (f : Nat → Int32) (k : Nat) : upd f k (f k) = f := by
  funext j
  by_cases h : j = k
  · subst h; rw [upd_s]
  · rw [upd_n _ _ h]
end
section
set_option maxRecDepth 100000
/-! the streets' ends and places as numbers -/
def fe (k : Nat) : Nat := if k < 9 then 4 * (k / 3) + k % 3 else k - 9
def se (k : Nat) : Nat := if k < 9 then 4 * (k / 3) + k % 3 + 1 else k - 9 + 4
def fp (k : Nat) : Nat := if k < 9 then (if k < 3 then 6 else k - 3) else (if (k - 9) % 4 = 0 then 7 else 3 * ((k - 9) / 4) + (k - 9) % 4 - 1)
def sp (k : Nat) : Nat := if k < 9 then (if 5 < k then 7 else k) else (if (k - 9) % 4 = 3 then 6 else 3 * ((k - 9) / 4) + (k - 9) % 4)
theorem fe_lt {k : Nat} (h : k < 17) : fe k < 12 := (show ∀ k, k < 17 → fe k < 12 by decide) k h
theorem se_lt {k : Nat} (h : k < 17) : se k < 12 := (show ∀ k, k < 17 → se k < 12 by decide) k h
theorem fp_lt {k : Nat} (h : k < 17) : fp k < 8 := (show ∀ k, k < 17 → fp k < 8 by decide) k h
theorem sp_lt {k : Nat} (h : k < 17) : sp k < 8 := (show ∀ k, k < 17 → sp k < 8 by decide) k h
theorem in_of {x : Int32} {n : Nat} (hn : n < 2 ^ 31) (h1 : ¬ x < 0) (h2 : ¬ nI n ≤ x) : x = nI x.toNatClampNeg ∧ x.toNatClampNeg < n := by
  rcases pk_ix x hn with h | h | ⟨j, hj, rfl⟩
  · exact absurd h h1
  · exact absurd h h2
  · rw [nI_clamp (Nat.lt_trans hj hn)]; exact ⟨rfl, hj⟩
def g_isStreet (x : Int32) : Int32 := (if x < 0 then 0 else (if 17 ≤ x then 0 else 1))
theorem ds_X0_isStreet : dsc yX0_isStreet 1 := by unfold dsc; decide +kernel
set_option maxHeartbeats 4000000 in
theorem met_X0_isStreet (l : Launch) (D : va_G) (tys : List (ClassId × FieldType)) (x : Int32) : Ctd l yX0_isStreet cX0_isStreet 1 (some .boolean) (rmk 0 0) [.int x] D tys [] (some (.int (g_isStreet x))) [] := by
  refine Ctd.ofJz (by decide) (Nat.le_of_ble_eq_true rfl) (by unfold g_isStreet; split <;> (try split) <;> rfl) ?_
  intro p e s m args below meth c A Q C T
  show J p l e (rmk 0 0) s m args below meth c D A 1 0 0 Q [] 0 [(0, .int x)] []
  refine j_iload_n C 0 rfl rfl dX0_isStreet_0 rfl ?_
  refine j_if_lt C 14 dX0_isStreet_1 (by decide) rfl (fun c_1 => ?_) (fun c_1 => ?_)
  · refine j_iconst C 0 dX0_isStreet_14 (by decide) rfl ?_
    have T := T _ [(0, .int x)] dX0_isStreet_15
    rw [show g_isStreet x = 0 from by unfold g_isStreet; rw [if_pos c_1]] at T
    exact T
  · refine j_iload_n C 0 rfl rfl dX0_isStreet_4 rfl ?_
    refine j_bipush C 17 dX0_isStreet_5 (by decide) rfl ?_
    refine j_icmp_ge C 14 dX0_isStreet_7 (by decide) rfl (fun c_2 => ?_) (fun c_2 => ?_)
    · refine j_iconst C 0 dX0_isStreet_14 (by decide) rfl ?_
      have T := T _ [(0, .int x)] dX0_isStreet_15
      rw [show g_isStreet x = 0 from by unfold g_isStreet; rw [if_neg c_1]; rw [if_pos c_2]] at T
      exact T
    · refine j_iconst C 1 dX0_isStreet_10 (by decide) rfl ?_
      refine j_goto C 15 dX0_isStreet_11 (by decide) ?_
      have T := T _ [(0, .int x)] dX0_isStreet_15
      rw [show g_isStreet x = 1 from by unfold g_isStreet; rw [if_neg c_1]; rw [if_neg c_2]] at T
      exact T
def g_isCrossing (x : Int32) : Int32 := (if x < 0 then 0 else (if 12 ≤ x then 0 else 1))
theorem ds_X0_isCrossing : dsc yX0_isCrossing 1 := by unfold dsc; decide +kernel
set_option maxHeartbeats 4000000 in
theorem met_X0_isCrossing (l : Launch) (D : va_G) (tys : List (ClassId × FieldType)) (x : Int32) : Ctd l yX0_isCrossing cX0_isCrossing 1 (some .boolean) (rmk 0 0) [.int x] D tys [] (some (.int (g_isCrossing x))) [] := by
  refine Ctd.ofJz (by decide) (Nat.le_of_ble_eq_true rfl) (by unfold g_isCrossing; split <;> (try split) <;> rfl) ?_
  intro p e s m args below meth c A Q C T
  show J p l e (rmk 0 0) s m args below meth c D A 1 0 0 Q [] 0 [(0, .int x)] []
  refine j_iload_n C 0 rfl rfl dX0_isCrossing_0 rfl ?_
  refine j_if_lt C 14 dX0_isCrossing_1 (by decide) rfl (fun c_1 => ?_) (fun c_1 => ?_)
  · refine j_iconst C 0 dX0_isCrossing_14 (by decide) rfl ?_
    have T := T _ [(0, .int x)] dX0_isCrossing_15
    rw [show g_isCrossing x = 0 from by unfold g_isCrossing; rw [if_pos c_1]] at T
    exact T
  · refine j_iload_n C 0 rfl rfl dX0_isCrossing_4 rfl ?_
    refine j_bipush C 12 dX0_isCrossing_5 (by decide) rfl ?_
    refine j_icmp_ge C 14 dX0_isCrossing_7 (by decide) rfl (fun c_2 => ?_) (fun c_2 => ?_)
    · refine j_iconst C 0 dX0_isCrossing_14 (by decide) rfl ?_
      have T := T _ [(0, .int x)] dX0_isCrossing_15
      rw [show g_isCrossing x = 0 from by unfold g_isCrossing; rw [if_neg c_1]; rw [if_pos c_2]] at T
      exact T
    · refine j_iconst C 1 dX0_isCrossing_10 (by decide) rfl ?_
      refine j_goto C 15 dX0_isCrossing_11 (by decide) ?_
      have T := T _ [(0, .int x)] dX0_isCrossing_15
      rw [show g_isCrossing x = 1 from by unfold g_isCrossing; rw [if_neg c_1]; rw [if_neg c_2]] at T
      exact T
theorem isStreet_in {x : Int32} (h : ¬ g_isStreet x = 0) : x = nI x.toNatClampNeg ∧ x.toNatClampNeg < 17 := by
  unfold g_isStreet at h
  by_cases h1 : x < 0
  · rw [if_pos h1] at h; exact absurd rfl h
  · by_cases h2 : (17 : Int32) ≤ x
    · rw [if_neg h1, if_pos h2] at h; exact absurd rfl h
    · exact in_of (n := 17) (by decide) h1 h2
theorem isCrossing_in {x : Int32} (h : ¬ g_isCrossing x = 0) : x = nI x.toNatClampNeg ∧ x.toNatClampNeg < 12 := by
  unfold g_isCrossing at h
  by_cases h1 : x < 0
  · rw [if_pos h1] at h; exact absurd rfl h
  · by_cases h2 : (12 : Int32) ≤ x
    · rw [if_neg h1, if_pos h2] at h; exact absurd rfl h
    · exact in_of (n := 12) (by decide) h1 h2
theorem lf_firstEnd_0 : ∀ k, k < 17 → (9 ≤ (nI k)) → (nI k) - 9 = nI (fe k) := by decide +kernel
theorem lf_firstEnd_1 : ∀ k, k < 17 → ¬ (9 ≤ (nI k)) → (4 * ((nI k) / 3)) + ((nI k) - (nI k) / 3 * 3) = nI (fe k) := by decide +kernel
theorem lf_firstEnd_2 : ∀ k, k < 17 → (9 ≤ (nI k)) → (nI k) - 9 = nI (fe k) := by decide +kernel
theorem lf_firstEnd_3 : ∀ k, k < 17 → ¬ (9 ≤ (nI k)) → (4 * ((nI k) / 3)) + ((nI k) - (nI k) / 3 * 3) = nI (fe k) := by decide +kernel
theorem ds_X0_firstEnd : dsc yX0_firstEnd 1 := by unfold dsc; decide +kernel
set_option maxHeartbeats 4000000 in
theorem met_X0_firstEnd (l : Launch) (D : va_G) (tys : List (ClassId × FieldType)) (k : Nat) (hk : k < 17) : Ctd l yX0_firstEnd cX0_firstEnd 1 (some .int) (rmk 0 0) [.int (nI k)] D tys [] (some (.int (nI (fe k)))) [] := by
  refine Ctd.ofJi (by decide) (Nat.le_of_ble_eq_true rfl) ?_
  intro p e s m args below meth c A Q C T
  show J p l e (rmk 0 0) s m args below meth c D A 1 0 0 Q [] 0 [(0, .int (nI k))] []
  refine j_iload_n C 0 rfl rfl dX0_firstEnd_0 rfl ?_
  refine j_bipush C 9 dX0_firstEnd_1 (by decide) rfl ?_
  refine j_icmp_ge C 18 dX0_firstEnd_3 (by decide) rfl (fun c_1 => ?_) (fun c_1 => ?_)
  · refine j_iload_n C 0 rfl rfl dX0_firstEnd_18 rfl ?_
    refine j_bipush C 9 dX0_firstEnd_19 (by decide) rfl ?_
    refine j_isub C dX0_firstEnd_21 rfl ?_
    refine j_top (lf_firstEnd_2 k hk c_1) ?_
    exact T _ _ dX0_firstEnd_22
  · refine j_iconst C 4 dX0_firstEnd_6 (by decide) rfl ?_
    refine j_iload_n C 0 rfl rfl dX0_firstEnd_7 rfl ?_
    refine j_iconst C 3 dX0_firstEnd_8 (by decide) rfl ?_
    refine j_idiv C (by decide) dX0_firstEnd_9 rfl ?_
    refine j_imul C dX0_firstEnd_10 rfl ?_
    refine j_iload_n C 0 rfl rfl dX0_firstEnd_11 rfl ?_
    refine j_iconst C 3 dX0_firstEnd_12 (by decide) rfl ?_
    refine j_irem C (by decide) dX0_firstEnd_13 rfl ?_
    refine j_iadd C dX0_firstEnd_14 rfl ?_
    refine j_goto C 22 dX0_firstEnd_15 (by decide) ?_
    refine j_top (lf_firstEnd_3 k hk c_1) ?_
    exact T _ _ dX0_firstEnd_22
theorem lf_secondEnd_0 : ∀ k, k < 17 → (9 ≤ (nI k)) → ((nI k) - 9) + 4 = nI (se k) := by decide +kernel
theorem lf_secondEnd_1 : ∀ k, k < 17 → ¬ (9 ≤ (nI k)) → ((4 * ((nI k) / 3)) + ((nI k) - (nI k) / 3 * 3)) + 1 = nI (se k) := by decide +kernel
theorem lf_secondEnd_2 : ∀ k, k < 17 → (9 ≤ (nI k)) → ((nI k) - 9) + 4 = nI (se k) := by decide +kernel
theorem lf_secondEnd_3 : ∀ k, k < 17 → ¬ (9 ≤ (nI k)) → ((4 * ((nI k) / 3)) + ((nI k) - (nI k) / 3 * 3)) + 1 = nI (se k) := by decide +kernel
theorem ds_X0_secondEnd : dsc yX0_secondEnd 1 := by unfold dsc; decide +kernel
set_option maxHeartbeats 4000000 in
theorem met_X0_secondEnd (l : Launch) (D : va_G) (tys : List (ClassId × FieldType)) (k : Nat) (hk : k < 17) : Ctd l yX0_secondEnd cX0_secondEnd 1 (some .int) (rmk 0 0) [.int (nI k)] D tys [] (some (.int (nI (se k)))) [] := by
  refine Ctd.ofJi (by decide) (Nat.le_of_ble_eq_true rfl) ?_
  intro p e s m args below meth c A Q C T
  show J p l e (rmk 0 0) s m args below meth c D A 1 0 0 Q [] 0 [(0, .int (nI k))] []
  refine j_iload_n C 0 rfl rfl dX0_secondEnd_0 rfl ?_
  refine j_bipush C 9 dX0_secondEnd_1 (by decide) rfl ?_
  refine j_icmp_ge C 20 dX0_secondEnd_3 (by decide) rfl (fun c_1 => ?_) (fun c_1 => ?_)
  · refine j_iload_n C 0 rfl rfl dX0_secondEnd_20 rfl ?_
    refine j_bipush C 9 dX0_secondEnd_21 (by decide) rfl ?_
    refine j_isub C dX0_secondEnd_23 rfl ?_
    refine j_iconst C 4 dX0_secondEnd_24 (by decide) rfl ?_
    refine j_iadd C dX0_secondEnd_25 rfl ?_
    refine j_top (lf_secondEnd_2 k hk c_1) ?_
    exact T _ _ dX0_secondEnd_26
  · refine j_iconst C 4 dX0_secondEnd_6 (by decide) rfl ?_
    refine j_iload_n C 0 rfl rfl dX0_secondEnd_7 rfl ?_
    refine j_iconst C 3 dX0_secondEnd_8 (by decide) rfl ?_
    refine j_idiv C (by decide) dX0_secondEnd_9 rfl ?_
    refine j_imul C dX0_secondEnd_10 rfl ?_
    refine j_iload_n C 0 rfl rfl dX0_secondEnd_11 rfl ?_
    refine j_iconst C 3 dX0_secondEnd_12 (by decide) rfl ?_
    refine j_irem C (by decide) dX0_secondEnd_13 rfl ?_
    refine j_iadd C dX0_secondEnd_14 rfl ?_
    refine j_iconst C 1 dX0_secondEnd_15 (by decide) rfl ?_
    refine j_iadd C dX0_secondEnd_16 rfl ?_
    refine j_goto C 26 dX0_secondEnd_17 (by decide) ?_
    refine j_top (lf_secondEnd_3 k hk c_1) ?_
    exact T _ _ dX0_secondEnd_26
theorem lf_firstPlace_0 : ∀ k, k < 17 → (9 ≤ (nI k)) → ¬ ((((nI k) - 9) - ((nI k) - 9) / 4 * 4) = 0) → ((3 * (((nI k) - 9) / 4)) + (((nI k) - 9) - ((nI k) - 9) / 4 * 4)) - 1 = nI (fp k) := by decide +kernel
theorem lf_firstPlace_1 : ∀ k, k < 17 → (9 ≤ (nI k)) → ((((nI k) - 9) - ((nI k) - 9) / 4 * 4) = 0) → 7 = nI (fp k) := by decide +kernel
theorem lf_firstPlace_2 : ∀ k, k < 17 → ¬ (9 ≤ (nI k)) → (3 ≤ (nI k)) → (nI k) - 3 = nI (fp k) := by decide +kernel
theorem lf_firstPlace_3 : ∀ k, k < 17 → ¬ (9 ≤ (nI k)) → ¬ (3 ≤ (nI k)) → 6 = nI (fp k) := by decide +kernel
theorem lf_firstPlace_4 : ∀ k, k < 17 → (9 ≤ (nI k)) → ¬ ((((nI k) - 9) - ((nI k) - 9) / 4 * 4) = 0) → ((3 * (((nI k) - 9) / 4)) + (((nI k) - 9) - ((nI k) - 9) / 4 * 4)) - 1 = nI (fp k) := by decide +kernel
theorem lf_firstPlace_5 : ∀ k, k < 17 → (9 ≤ (nI k)) → ((((nI k) - 9) - ((nI k) - 9) / 4 * 4) = 0) → 7 = nI (fp k) := by decide +kernel
theorem lf_firstPlace_6 : ∀ k, k < 17 → ¬ (9 ≤ (nI k)) → (3 ≤ (nI k)) → (nI k) - 3 = nI (fp k) := by decide +kernel
theorem lf_firstPlace_7 : ∀ k, k < 17 → ¬ (9 ≤ (nI k)) → ¬ (3 ≤ (nI k)) → 6 = nI (fp k) := by decide +kernel
theorem ds_X0_firstPlace : dsc yX0_firstPlace 1 := by unfold dsc; decide +kernel
set_option maxHeartbeats 4000000 in
theorem met_X0_firstPlace (l : Launch) (D : va_G) (tys : List (ClassId × FieldType)) (k : Nat) (hk : k < 17) : Ctd l yX0_firstPlace cX0_firstPlace 3 (some .int) (rmk 0 0) [.int (nI k)] D tys [] (some (.int (nI (fp k)))) [] := by
  refine Ctd.ofJi (by decide) (Nat.le_of_ble_eq_true rfl) ?_
  intro p e s m args below meth c A Q C T
  show J p l e (rmk 0 0) s m args below meth c D A 3 0 0 Q [] 0 [(0, .int (nI k))] []
  refine j_iload_n C 0 rfl rfl dX0_firstPlace_0 rfl ?_
  refine j_bipush C 9 dX0_firstPlace_1 (by decide) rfl ?_
  refine j_icmp_ge C 20 dX0_firstPlace_3 (by decide) rfl (fun c_1 => ?_) (fun c_1 => ?_)
  · refine j_iload_n C 0 rfl rfl dX0_firstPlace_20 rfl ?_
    refine j_bipush C 9 dX0_firstPlace_21 (by decide) rfl ?_
    refine j_isub C dX0_firstPlace_23 rfl ?_
    refine j_iconst C 4 dX0_firstPlace_24 (by decide) rfl ?_
    refine j_idiv C (by decide) dX0_firstPlace_25 rfl ?_
    refine j_istore_n C [(1, .int (((nI k) - 9) / 4)), (0, .int (nI k))] rfl (by decide) rfl dX0_firstPlace_26 rfl ?_
    refine j_iload_n C 1 rfl rfl dX0_firstPlace_27 rfl ?_
    refine j_bipush C 9 dX0_firstPlace_28 (by decide) rfl ?_
    refine j_isub C dX0_firstPlace_30 rfl ?_
    refine j_iconst C 4 dX0_firstPlace_31 (by decide) rfl ?_
    refine j_irem C (by decide) dX0_firstPlace_32 rfl ?_
    refine j_istore_n C [(2, .int (((nI k) - 9) - ((nI k) - 9) / 4 * 4)), (1, .int (((nI k) - 9) / 4)), (0, .int (nI k))] rfl (by decide) rfl dX0_firstPlace_33 rfl ?_
    refine j_iload_n C 0 rfl rfl dX0_firstPlace_34 rfl ?_
    refine j_if_ne C 43 dX0_firstPlace_35 (by decide) rfl (fun c_2 => ?_) (fun c_2 => ?_)
    · refine j_iconst C 3 dX0_firstPlace_43 (by decide) rfl ?_
      refine j_iload_n C 1 rfl rfl dX0_firstPlace_44 rfl ?_
      refine j_imul C dX0_firstPlace_45 rfl ?_
      refine j_iload_n C 0 rfl rfl dX0_firstPlace_46 rfl ?_
      refine j_iadd C dX0_firstPlace_47 rfl ?_
      refine j_iconst C 1 dX0_firstPlace_48 (by decide) rfl ?_
      refine j_isub C dX0_firstPlace_49 rfl ?_
      refine j_top (lf_firstPlace_4 k hk c_1 c_2) ?_
      exact T _ _ dX0_firstPlace_50
    · refine j_bipush C 7 dX0_firstPlace_38 (by decide) rfl ?_
      refine j_goto C 50 dX0_firstPlace_40 (by decide) ?_
      refine j_top (lf_firstPlace_5 k hk c_1 c_2) ?_
      exact T _ _ dX0_firstPlace_50
  · refine j_iload_n C 0 rfl rfl dX0_firstPlace_6 rfl ?_
    refine j_iconst C 3 dX0_firstPlace_7 (by decide) rfl ?_
    refine j_icmp_ge C 16 dX0_firstPlace_8 (by decide) rfl (fun c_3 => ?_) (fun c_3 => ?_)
    · refine j_iload_n C 0 rfl rfl dX0_firstPlace_16 rfl ?_
      refine j_iconst C 3 dX0_firstPlace_17 (by decide) rfl ?_
      refine j_isub C dX0_firstPlace_18 rfl ?_
      refine j_top (lf_firstPlace_6 k hk c_1 c_3) ?_
      exact T _ _ dX0_firstPlace_19
    · refine j_bipush C 6 dX0_firstPlace_11 (by decide) rfl ?_
      refine j_goto C 19 dX0_firstPlace_13 (by decide) ?_
      refine j_top (lf_firstPlace_7 k hk c_1 c_3) ?_
      exact T _ _ dX0_firstPlace_19
theorem lf_secondPlace_0 : ∀ k, k < 17 → (9 ≤ (nI k)) → ¬ ((((nI k) - 9) - ((nI k) - 9) / 4 * 4) = 3) → (3 * (((nI k) - 9) / 4)) + (((nI k) - 9) - ((nI k) - 9) / 4 * 4) = nI (sp k) := by decide +kernel
theorem lf_secondPlace_1 : ∀ k, k < 17 → (9 ≤ (nI k)) → ((((nI k) - 9) - ((nI k) - 9) / 4 * 4) = 3) → 6 = nI (sp k) := by decide +kernel
theorem lf_secondPlace_2 : ∀ k, k < 17 → ¬ (9 ≤ (nI k)) → ((nI k) ≤ 5) → nI k = nI (sp k) := by decide +kernel
theorem lf_secondPlace_3 : ∀ k, k < 17 → ¬ (9 ≤ (nI k)) → ¬ ((nI k) ≤ 5) → 7 = nI (sp k) := by decide +kernel
theorem lf_secondPlace_4 : ∀ k, k < 17 → (9 ≤ (nI k)) → ¬ ((((nI k) - 9) - ((nI k) - 9) / 4 * 4) = 3) → (3 * (((nI k) - 9) / 4)) + (((nI k) - 9) - ((nI k) - 9) / 4 * 4) = nI (sp k) := by decide +kernel
theorem lf_secondPlace_5 : ∀ k, k < 17 → (9 ≤ (nI k)) → ((((nI k) - 9) - ((nI k) - 9) / 4 * 4) = 3) → 6 = nI (sp k) := by decide +kernel
theorem lf_secondPlace_6 : ∀ k, k < 17 → ¬ (9 ≤ (nI k)) → ((nI k) ≤ 5) → nI k = nI (sp k) := by decide +kernel
theorem lf_secondPlace_7 : ∀ k, k < 17 → ¬ (9 ≤ (nI k)) → ¬ ((nI k) ≤ 5) → 7 = nI (sp k) := by decide +kernel
theorem ds_X0_secondPlace : dsc yX0_secondPlace 1 := by unfold dsc; decide +kernel
set_option maxHeartbeats 4000000 in
theorem met_X0_secondPlace (l : Launch) (D : va_G) (tys : List (ClassId × FieldType)) (k : Nat) (hk : k < 17) : Ctd l yX0_secondPlace cX0_secondPlace 3 (some .int) (rmk 0 0) [.int (nI k)] D tys [] (some (.int (nI (sp k)))) [] := by
  refine Ctd.ofJi (by decide) (Nat.le_of_ble_eq_true rfl) ?_
  intro p e s m args below meth c A Q C T
  show J p l e (rmk 0 0) s m args below meth c D A 3 0 0 Q [] 0 [(0, .int (nI k))] []
  refine j_iload_n C 0 rfl rfl dX0_secondPlace_0 rfl ?_
  refine j_bipush C 9 dX0_secondPlace_1 (by decide) rfl ?_
  refine j_icmp_ge C 18 dX0_secondPlace_3 (by decide) rfl (fun c_1 => ?_) (fun c_1 => ?_)
  · refine j_iload_n C 0 rfl rfl dX0_secondPlace_18 rfl ?_
    refine j_bipush C 9 dX0_secondPlace_19 (by decide) rfl ?_
    refine j_isub C dX0_secondPlace_21 rfl ?_
    refine j_iconst C 4 dX0_secondPlace_22 (by decide) rfl ?_
    refine j_idiv C (by decide) dX0_secondPlace_23 rfl ?_
    refine j_istore_n C [(1, .int (((nI k) - 9) / 4)), (0, .int (nI k))] rfl (by decide) rfl dX0_secondPlace_24 rfl ?_
    refine j_iload_n C 1 rfl rfl dX0_secondPlace_25 rfl ?_
    refine j_bipush C 9 dX0_secondPlace_26 (by decide) rfl ?_
    refine j_isub C dX0_secondPlace_28 rfl ?_
    refine j_iconst C 4 dX0_secondPlace_29 (by decide) rfl ?_
    refine j_irem C (by decide) dX0_secondPlace_30 rfl ?_
    refine j_istore_n C [(2, .int (((nI k) - 9) - ((nI k) - 9) / 4 * 4)), (1, .int (((nI k) - 9) / 4)), (0, .int (nI k))] rfl (by decide) rfl dX0_secondPlace_31 rfl ?_
    refine j_iload_n C 0 rfl rfl dX0_secondPlace_32 rfl ?_
    refine j_iconst C 3 dX0_secondPlace_33 (by decide) rfl ?_
    refine j_icmp_ne C 42 dX0_secondPlace_34 (by decide) rfl (fun c_2 => ?_) (fun c_2 => ?_)
    · refine j_iconst C 3 dX0_secondPlace_42 (by decide) rfl ?_
      refine j_iload_n C 1 rfl rfl dX0_secondPlace_43 rfl ?_
      refine j_imul C dX0_secondPlace_44 rfl ?_
      refine j_iload_n C 0 rfl rfl dX0_secondPlace_45 rfl ?_
      refine j_iadd C dX0_secondPlace_46 rfl ?_
      refine j_top (lf_secondPlace_4 k hk c_1 c_2) ?_
      exact T _ _ dX0_secondPlace_47
    · refine j_bipush C 6 dX0_secondPlace_37 (by decide) rfl ?_
      refine j_goto C 47 dX0_secondPlace_39 (by decide) ?_
      refine j_top (lf_secondPlace_5 k hk c_1 c_2) ?_
      exact T _ _ dX0_secondPlace_47
  · refine j_iload_n C 0 rfl rfl dX0_secondPlace_6 rfl ?_
    refine j_iconst C 5 dX0_secondPlace_7 (by decide) rfl ?_
    refine j_icmp_le C 16 dX0_secondPlace_8 (by decide) rfl (fun c_3 => ?_) (fun c_3 => ?_)
    · refine j_iload_n C 0 rfl rfl dX0_secondPlace_16 rfl ?_
      refine j_top (lf_secondPlace_6 k hk c_1 c_3) ?_
      exact T _ _ dX0_secondPlace_17
    · refine j_bipush C 7 dX0_secondPlace_11 (by decide) rfl ?_
      refine j_goto C 17 dX0_secondPlace_13 (by decide) ?_
      refine j_top (lf_secondPlace_7 k hk c_1 c_3) ?_
      exact T _ _ dX0_secondPlace_17
def g_otherEnd (k : Nat) (x : Int32) : Int32 := (if (nI (fe k)) = x then nI (se k) else (if (nI (se k)) = x then nI (fe k) else (-1)))
theorem ds_X0_otherEnd : dsc yX0_otherEnd 2 := by unfold dsc; decide +kernel
set_option maxHeartbeats 4000000 in
theorem met_X0_otherEnd (l : Launch) (D : va_G) (tys : List (ClassId × FieldType)) (k : Nat) (x : Int32) (hk : k < 17) : Ctd l yX0_otherEnd cX0_otherEnd 2 (some .int) (rmk 1 20) [.int (nI k), .int x] D tys [] (some (.int (g_otherEnd k x))) [] := by
  refine Ctd.ofJi (by decide) (Nat.le_of_ble_eq_true rfl) ?_
  intro p e s m args below meth c A Q C T
  show J p l e (rmk 1 20) s m args below meth c D A 2 0 0 Q [] 0 [(0, .int (nI k)), (1, .int x)] []
  refine j_iload_n C 0 rfl rfl dX0_otherEnd_0 rfl ?_
  refine j_callS C (met_X0_firstEnd l D tys k hk) q75 q76 q15 q77 ds_X0_firstEnd ⟨rfl, rfl⟩ ⟨Nat.le_of_ble_eq_true rfl, Nat.le_of_ble_eq_true rfl⟩ rfl (rest := []) rfl (Nat.le_of_ble_eq_true rfl) ⟨Nat.zero_le _, Nat.zero_le _⟩ dX0_otherEnd_1 rfl (st' := [.int (nI (fe k))]) rfl ?_
  refine j_iload_n C 1 rfl rfl dX0_otherEnd_4 rfl ?_
  refine j_icmp_ne C 13 dX0_otherEnd_5 (by decide) rfl (fun c_1 => ?_) (fun c_1 => ?_)
  · refine j_iload_n C 0 rfl rfl dX0_otherEnd_13 rfl ?_
    refine j_callS C (met_X0_secondEnd l D tys k hk) q78 q79 q15 q80 ds_X0_secondEnd ⟨rfl, rfl⟩ ⟨Nat.le_of_ble_eq_true rfl, Nat.le_of_ble_eq_true rfl⟩ rfl (rest := []) rfl (Nat.le_of_ble_eq_true rfl) ⟨Nat.zero_le _, Nat.zero_le _⟩ dX0_otherEnd_14 rfl (st' := [.int (nI (se k))]) rfl ?_
    refine j_iload_n C 1 rfl rfl dX0_otherEnd_17 rfl ?_
    refine j_icmp_ne C 28 dX0_otherEnd_18 (by decide) rfl (fun c_2 => ?_) (fun c_2 => ?_)
    · refine j_iconst C (-1) dX0_otherEnd_28 (by decide) rfl ?_
      have T := T _ [(0, .int (nI k)), (1, .int x)] dX0_otherEnd_29
      rw [show g_otherEnd k x = (-1) from by unfold g_otherEnd; rw [if_neg c_1]; rw [if_neg c_2]] at T
      exact T
    · refine j_iload_n C 0 rfl rfl dX0_otherEnd_21 rfl ?_
      refine j_callS C (met_X0_firstEnd l D tys k hk) q75 q76 q15 q77 ds_X0_firstEnd ⟨rfl, rfl⟩ ⟨Nat.le_of_ble_eq_true rfl, Nat.le_of_ble_eq_true rfl⟩ rfl (rest := []) rfl (Nat.le_of_ble_eq_true rfl) ⟨Nat.zero_le _, Nat.zero_le _⟩ dX0_otherEnd_22 rfl (st' := [.int (nI (fe k))]) rfl ?_
      refine j_goto C 29 dX0_otherEnd_25 (by decide) ?_
      have T := T _ [(0, .int (nI k)), (1, .int x)] dX0_otherEnd_29
      rw [show g_otherEnd k x = nI (fe k) from by unfold g_otherEnd; rw [if_neg c_1]; rw [if_pos c_2]] at T
      exact T
  · refine j_iload_n C 0 rfl rfl dX0_otherEnd_8 rfl ?_
    refine j_callS C (met_X0_secondEnd l D tys k hk) q78 q79 q15 q80 ds_X0_secondEnd ⟨rfl, rfl⟩ ⟨Nat.le_of_ble_eq_true rfl, Nat.le_of_ble_eq_true rfl⟩ rfl (rest := []) rfl (Nat.le_of_ble_eq_true rfl) ⟨Nat.zero_le _, Nat.zero_le _⟩ dX0_otherEnd_9 rfl (st' := [.int (nI (se k))]) rfl ?_
    have T := T _ [(0, .int (nI k)), (1, .int x)] dX0_otherEnd_12
    rw [show g_otherEnd k x = nI (se k) from by unfold g_otherEnd; rw [if_pos c_1]] at T
    exact T
theorem otherEnd_in {k : Nat} {x : Int32} (hk : k < 17) (h : ¬ g_otherEnd k x = (-1)) : g_otherEnd k x = nI (g_otherEnd k x).toNatClampNeg ∧ (g_otherEnd k x).toNatClampNeg < 12 := by
  have hs := se_lt hk
  have hf := fe_lt hk
  unfold g_otherEnd at h ⊢
  by_cases h1 : nI (fe k) = x
  · rw [if_pos h1, nI_clamp (by omega)]; exact ⟨rfl, hs⟩
  · rw [if_neg h1] at h ⊢
    by_cases h2 : nI (se k) = x
    · rw [if_pos h2, nI_clamp (by omega)]; exact ⟨rfl, hf⟩
    · rw [if_neg h2] at h; exact absurd rfl h
theorem oe_fe {k : Nat} : g_otherEnd k (nI (fe k)) = nI (se k) := by unfold g_otherEnd; rw [if_pos rfl]
theorem oe_se {k : Nat} (hk : k < 17) : g_otherEnd k (nI (se k)) = nI (fe k) := by
  have h : ∀ k, k < 17 → ¬ nI (fe k) = nI (se k) := by decide
  unfold g_otherEnd; rw [if_neg (h k hk), if_pos rfl]
theorem shr1 {i : Nat} (h : i < 34) : nI i >>> ((1 : Int32) &&& 31) = nI (i / 2) := (show ∀ i, i < 34 → nI i >>> ((1 : Int32) &&& 31) = nI (i / 2) by decide +kernel) i h
theorem and1 {i : Nat} (h : i < 34) : nI i &&& 1 = nI (i % 2) := (show ∀ i, i < 34 → nI i &&& 1 = nI (i % 2) by decide +kernel) i h
end
section
set_option maxRecDepth 100000
def g_room (cap : Nat → Int32) (clo : Nat → Int32) (k : Nat) : Int32 := (if (clo k) = 0 then cap k else 0)
theorem ds_X0_room : dsc yX0_room 1 := by unfold dsc; decide +kernel
set_option maxHeartbeats 4000000 in
theorem met_X0_room (l : Launch) (D : va_G) (h : Nat) (q : Nat → Nat) (dZ dB : ClassId) (cap clo use len set par que : Nat → Int32) (k : Nat) (hk : k < 17) : Ctd l yX0_room cX0_room 2 (some .int) (rmk 0 0) [.ref h, .int (nI k)] D (tyZ dZ dB) (gW h q dZ dB cap clo use len set par que) (some (.int (g_room cap clo k))) (gW h q dZ dB cap clo use len set par que) := by
  refine Ctd.ofJi (by decide) (Nat.le_of_ble_eq_true rfl) ?_
  intro p e s m args below meth c A Q C T
  show J p l e (rmk 0 0) s m args below meth c D A 2 0 0 Q (gW h q dZ dB cap clo use len set par que) 0 [(0, .ref h), (1, .int (nI k))] []
  refine j_aload_n C 0 rfl rfl dX0_room_0 rfl ?_
  refine j_get0 C 1 rfl (by decide) q26 rfl rfl dX0_room_1 rfl ?_
  refine j_iload_n C 1 rfl rfl dX0_room_4 rfl ?_
  refine j_zald (k := k) C 2 rfl rfl hk (by decide) dX0_room_5 rfl ?_
  refine j_if_eq C 13 dX0_room_6 (by decide) rfl (fun c_1 => ?_) (fun c_1 => ?_)
  · refine j_aload_n C 0 rfl rfl dX0_room_13 rfl ?_
    refine j_get0 C 0 rfl (by decide) q25 rfl rfl dX0_room_14 rfl ?_
    refine j_iload_n C 1 rfl rfl dX0_room_17 rfl ?_
    refine j_iald (k := k) C 1 rfl rfl hk (by decide) dX0_room_18 rfl ?_
    have T := T _ [(0, .ref h), (1, .int (nI k))] dX0_room_19
    rw [show g_room cap clo k = cap k from by unfold g_room; rw [if_pos c_1]] at T
    exact T
  · refine j_iconst C 0 dX0_room_9 (by decide) rfl ?_
    refine j_goto C 19 dX0_room_10 (by decide) ?_
    have T := T _ [(0, .ref h), (1, .int (nI k))] dX0_room_19
    rw [show g_room cap clo k = 0 from by unfold g_room; rw [if_neg c_1]] at T
    exact T
def g_left (cap : Nat → Int32) (clo : Nat → Int32) (use : Nat → Int32) (k : Nat) (x : Int32) : Int32 := (if (nI (fe k)) = x then (g_room cap clo k) - (use k) else (g_room cap clo k) + (use k))
theorem ds_X0_left : dsc yX0_left 2 := by unfold dsc; decide +kernel
set_option maxHeartbeats 4000000 in
theorem met_X0_left (l : Launch) (D : va_G) (h : Nat) (q : Nat → Nat) (dZ dB : ClassId) (cap clo use len set par que : Nat → Int32) (k : Nat) (x : Int32) (hk : k < 17) : Ctd l yX0_left cX0_left 3 (some .int) (rmk 1 21) [.ref h, .int (nI k), .int x] D (tyZ dZ dB) (gW h q dZ dB cap clo use len set par que) (some (.int (g_left cap clo use k x))) (gW h q dZ dB cap clo use len set par que) := by
  refine Ctd.ofJi (by decide) (Nat.le_of_ble_eq_true rfl) ?_
  intro p e s m args below meth c A Q C T
  show J p l e (rmk 1 21) s m args below meth c D A 3 0 0 Q (gW h q dZ dB cap clo use len set par que) 0 [(0, .ref h), (1, .int (nI k)), (2, .int x)] []
  refine j_iload_n C 1 rfl rfl dX0_left_0 rfl ?_
  refine j_callS C (met_X0_firstEnd l D (tyZ dZ dB) k hk) q75 q76 q15 q77 ds_X0_firstEnd ⟨rfl, rfl⟩ ⟨Nat.le_of_ble_eq_true rfl, Nat.le_of_ble_eq_true rfl⟩ rfl (rest := []) rfl (Nat.le_of_ble_eq_true rfl) ⟨Nat.zero_le _, Nat.zero_le _⟩ dX0_left_1 rfl (st' := [.int (nI (fe k))]) rfl ?_
  refine j_iload_n C 2 rfl rfl dX0_left_4 rfl ?_
  refine j_icmp_ne C 23 dX0_left_5 (by decide) rfl (fun c_1 => ?_) (fun c_1 => ?_)
  · refine j_aload_n C 0 rfl rfl dX0_left_23 rfl ?_
    refine j_iload_n C 1 rfl rfl dX0_left_24 rfl ?_
    refine j_callV C (met_X0_room l D h q dZ dB cap clo use len set par que k hk) q96 q98 qs1 q15 q99 ds_X0_room ⟨rfl, rfl⟩ ⟨Nat.le_of_ble_eq_true rfl, Nat.le_of_ble_eq_true rfl⟩ rfl (rest := []) rfl rfl rfl rfl (Nat.le_of_ble_eq_true rfl) ⟨Nat.zero_le _, Nat.zero_le _⟩ dX0_left_25 rfl (st' := [.int (g_room cap clo k)]) rfl ?_
    refine j_aload_n C 0 rfl rfl dX0_left_28 rfl ?_
    refine j_get0 C 2 rfl (by decide) q27 rfl rfl dX0_left_29 rfl ?_
    refine j_iload_n C 1 rfl rfl dX0_left_32 rfl ?_
    refine j_iald (k := k) C 3 rfl rfl hk (by decide) dX0_left_33 rfl ?_
    refine j_iadd C dX0_left_34 rfl ?_
    have T := T _ [(0, .ref h), (1, .int (nI k)), (2, .int x)] dX0_left_35
    rw [show g_left cap clo use k x = (g_room cap clo k) + (use k) from by unfold g_left; rw [if_neg c_1]] at T
    exact T
  · refine j_aload_n C 0 rfl rfl dX0_left_8 rfl ?_
    refine j_iload_n C 1 rfl rfl dX0_left_9 rfl ?_
    refine j_callV C (met_X0_room l D h q dZ dB cap clo use len set par que k hk) q96 q98 qs1 q15 q99 ds_X0_room ⟨rfl, rfl⟩ ⟨Nat.le_of_ble_eq_true rfl, Nat.le_of_ble_eq_true rfl⟩ rfl (rest := []) rfl rfl rfl rfl (Nat.le_of_ble_eq_true rfl) ⟨Nat.zero_le _, Nat.zero_le _⟩ dX0_left_10 rfl (st' := [.int (g_room cap clo k)]) rfl ?_
    refine j_aload_n C 0 rfl rfl dX0_left_13 rfl ?_
    refine j_get0 C 2 rfl (by decide) q27 rfl rfl dX0_left_14 rfl ?_
    refine j_iload_n C 1 rfl rfl dX0_left_17 rfl ?_
    refine j_iald (k := k) C 3 rfl rfl hk (by decide) dX0_left_18 rfl ?_
    refine j_isub C dX0_left_19 rfl ?_
    refine j_goto C 35 dX0_left_20 (by decide) ?_
    have T := T _ [(0, .ref h), (1, .int (nI k)), (2, .int x)] dX0_left_35
    rw [show g_left cap clo use k x = (g_room cap clo k) - (use k) from by unfold g_left; rw [if_pos c_1]] at T
    exact T
def g_relax (len : Nat → Int32) (near : Nat) (pa : Nat) (qa : Nat) (cost : Int32) : (Nat → Int32) := (if (nI near) = (nI pa) then (if (len qa) ≤ ((len near) + cost) then len else upd len qa ((len near) + cost)) else (if (nI near) = (nI qa) then (if (len pa) ≤ ((len near) + cost) then len else upd len pa ((len near) + cost)) else len))
theorem ds_X0_relax : dsc yX0_relax 4 := by unfold dsc; decide +kernel
set_option maxHeartbeats 4000000 in
theorem met_X0_relax (l : Launch) (D : va_G) (h : Nat) (q : Nat → Nat) (dZ dB : ClassId) (cap clo use len set par que : Nat → Int32) (near : Nat) (pa : Nat) (qa : Nat) (cost : Int32) (hnear : near < 8) (hpa : pa < 8) (hqa : qa < 8) : Ctd l yX0_relax cX0_relax 7 none (rmk 0 0) [.ref h, .int (nI near), .int (nI pa), .int (nI qa), .int cost] D (tyZ dZ dB) (gW h q dZ dB cap clo use len set par que) none (gW h q dZ dB cap clo use (g_relax len near pa qa cost) set par que) := by
  refine Ctd.ofJv (by decide) (Nat.le_of_ble_eq_true rfl) ?_
  intro p e s m args below meth c A Q C T
  show J p l e (rmk 0 0) s m args below meth c D A 7 0 0 Q (gW h q dZ dB cap clo use len set par que) 0 [(0, .ref h), (1, .int (nI near)), (2, .int (nI pa)), (3, .int (nI qa)), (4, .int cost)] []
  refine j_iload_n C 1 rfl rfl dX0_relax_0 rfl ?_
  refine j_iload_n C 2 rfl rfl dX0_relax_1 rfl ?_
  refine j_icmp_ne C 9 dX0_relax_2 (by decide) rfl (fun c_1 => ?_) (fun c_1 => ?_)
  · refine j_iload_n C 2 rfl rfl dX0_relax_9 rfl ?_
    refine j_istore C [(5, .int (nI pa)), (0, .ref h), (1, .int (nI near)), (2, .int (nI pa)), (3, .int (nI qa)), (4, .int cost)] (by decide) rfl dX0_relax_10 rfl ?_
    refine j_iload_n C 2 rfl rfl dX0_relax_12 rfl ?_
    refine j_iload_n C 3 rfl rfl dX0_relax_13 rfl ?_
    refine j_icmp_eq C 22 dX0_relax_14 (by decide) rfl (fun c_2 => absurd c_2 c_1) (fun _ => ?_)
    refine j_iload_n C 2 rfl rfl dX0_relax_17 rfl ?_
    refine j_iload_n C 4 rfl rfl dX0_relax_18 rfl ?_
    refine j_icmp_ne C 26 dX0_relax_19 (by decide) rfl (fun c_3 => ?_) (fun c_3 => ?_)
    · refine j_iconst C 0 dX0_relax_26 (by decide) rfl ?_
      refine j_istore C [(6, .int 0), (5, .int (nI pa)), (0, .ref h), (1, .int (nI near)), (2, .int (nI pa)), (3, .int (nI qa)), (4, .int cost)] (by decide) rfl dX0_relax_27 rfl ?_
      refine j_iload C 0 rfl dX0_relax_29 rfl ?_
      refine j_if_eq C 69 dX0_relax_31 (by decide) rfl (fun _ => ?_) (fun c_4 => absurd (by decide) c_4)
      have T := T _ [(6, .int 0), (5, .int (nI pa)), (0, .ref h), (1, .int (nI near)), (2, .int (nI pa)), (3, .int (nI qa)), (4, .int cost)] dX0_relax_69
      rw [show g_relax len near pa qa cost = len from by unfold g_relax; rw [if_neg c_1]; rw [if_neg c_3]] at T
      exact T
    · refine j_iconst C 1 dX0_relax_22 (by decide) rfl ?_
      refine j_goto C 27 dX0_relax_23 (by decide) ?_
      refine j_istore C [(6, .int 1), (5, .int (nI pa)), (0, .ref h), (1, .int (nI near)), (2, .int (nI pa)), (3, .int (nI qa)), (4, .int cost)] (by decide) rfl dX0_relax_27 rfl ?_
      refine j_iload C 0 rfl dX0_relax_29 rfl ?_
      refine j_if_eq C 69 dX0_relax_31 (by decide) rfl (fun c_5 => absurd c_5 (by decide)) (fun _ => ?_)
      refine j_aload_n C 2 rfl rfl dX0_relax_34 rfl ?_
      refine j_get0 C 3 rfl (by decide) q28 rfl rfl dX0_relax_35 rfl ?_
      refine j_iload_n C 3 rfl rfl dX0_relax_38 rfl ?_
      refine j_iald (k := near) C 4 rfl rfl hnear (by decide) dX0_relax_39 rfl ?_
      refine j_iload C 6 rfl dX0_relax_40 rfl ?_
      refine j_iadd C dX0_relax_42 rfl ?_
      refine j_aload_n C 2 rfl rfl dX0_relax_43 rfl ?_
      refine j_get0 C 3 rfl (by decide) q28 rfl rfl dX0_relax_44 rfl ?_
      refine j_iload C 1 rfl dX0_relax_47 rfl ?_
      refine j_iald (k := pa) C 4 rfl rfl hpa (by decide) dX0_relax_49 rfl ?_
      refine j_icmp_ge C 69 dX0_relax_50 (by decide) rfl (fun c_6 => ?_) (fun c_6 => ?_)
      · have T := T _ [(6, .int 1), (5, .int (nI pa)), (0, .ref h), (1, .int (nI near)), (2, .int (nI pa)), (3, .int (nI qa)), (4, .int cost)] dX0_relax_69
        rw [show g_relax len near pa qa cost = len from by unfold g_relax; rw [if_neg c_1]; rw [if_pos c_3]; rw [if_pos c_6]] at T
        exact T
      · refine j_aload_n C 2 rfl rfl dX0_relax_53 rfl ?_
        refine j_get0 C 3 rfl (by decide) q28 rfl rfl dX0_relax_54 rfl ?_
        refine j_iload C 1 rfl dX0_relax_57 rfl ?_
        refine j_aload_n C 2 rfl rfl dX0_relax_59 rfl ?_
        refine j_get0 C 3 rfl (by decide) q28 rfl rfl dX0_relax_60 rfl ?_
        refine j_iload_n C 3 rfl rfl dX0_relax_63 rfl ?_
        refine j_iald (k := near) C 4 rfl rfl hnear (by decide) dX0_relax_64 rfl ?_
        refine j_iload C 6 rfl dX0_relax_65 rfl ?_
        refine j_iadd C dX0_relax_67 rfl ?_
        refine j_iast (k := pa) C 4 (gW h q dZ dB cap clo use (upd len pa ((len near) + cost)) set par que) rfl rfl hpa (by decide) rfl dX0_relax_68 rfl ?_
        have T := T _ [(6, .int 1), (5, .int (nI pa)), (0, .ref h), (1, .int (nI near)), (2, .int (nI pa)), (3, .int (nI qa)), (4, .int cost)] dX0_relax_69
        rw [show g_relax len near pa qa cost = upd len pa ((len near) + cost) from by unfold g_relax; rw [if_neg c_1]; rw [if_pos c_3]; rw [if_neg c_6]] at T
        exact T
  · refine j_iload_n C 3 rfl rfl dX0_relax_5 rfl ?_
    refine j_goto C 10 dX0_relax_6 (by decide) ?_
    refine j_istore C [(5, .int (nI qa)), (0, .ref h), (1, .int (nI near)), (2, .int (nI pa)), (3, .int (nI qa)), (4, .int cost)] (by decide) rfl dX0_relax_10 rfl ?_
    refine j_iload_n C 2 rfl rfl dX0_relax_12 rfl ?_
    refine j_iload_n C 3 rfl rfl dX0_relax_13 rfl ?_
    refine j_icmp_eq C 22 dX0_relax_14 (by decide) rfl (fun _ => ?_) (fun c_7 => absurd c_1 c_7)
    refine j_iconst C 1 dX0_relax_22 (by decide) rfl ?_
    refine j_goto C 27 dX0_relax_23 (by decide) ?_
    refine j_istore C [(6, .int 1), (5, .int (nI qa)), (0, .ref h), (1, .int (nI near)), (2, .int (nI pa)), (3, .int (nI qa)), (4, .int cost)] (by decide) rfl dX0_relax_27 rfl ?_
    refine j_iload C 0 rfl dX0_relax_29 rfl ?_
    refine j_if_eq C 69 dX0_relax_31 (by decide) rfl (fun c_8 => absurd c_8 (by decide)) (fun _ => ?_)
    refine j_aload_n C 2 rfl rfl dX0_relax_34 rfl ?_
    refine j_get0 C 3 rfl (by decide) q28 rfl rfl dX0_relax_35 rfl ?_
    refine j_iload_n C 3 rfl rfl dX0_relax_38 rfl ?_
    refine j_iald (k := near) C 4 rfl rfl hnear (by decide) dX0_relax_39 rfl ?_
    refine j_iload C 6 rfl dX0_relax_40 rfl ?_
    refine j_iadd C dX0_relax_42 rfl ?_
    refine j_aload_n C 2 rfl rfl dX0_relax_43 rfl ?_
    refine j_get0 C 3 rfl (by decide) q28 rfl rfl dX0_relax_44 rfl ?_
    refine j_iload C 1 rfl dX0_relax_47 rfl ?_
    refine j_iald (k := qa) C 4 rfl rfl hqa (by decide) dX0_relax_49 rfl ?_
    refine j_icmp_ge C 69 dX0_relax_50 (by decide) rfl (fun c_9 => ?_) (fun c_9 => ?_)
    · have T := T _ [(6, .int 1), (5, .int (nI qa)), (0, .ref h), (1, .int (nI near)), (2, .int (nI pa)), (3, .int (nI qa)), (4, .int cost)] dX0_relax_69
      rw [show g_relax len near pa qa cost = len from by unfold g_relax; rw [if_pos c_1]; rw [if_pos c_9]] at T
      exact T
    · refine j_aload_n C 2 rfl rfl dX0_relax_53 rfl ?_
      refine j_get0 C 3 rfl (by decide) q28 rfl rfl dX0_relax_54 rfl ?_
      refine j_iload C 1 rfl dX0_relax_57 rfl ?_
      refine j_aload_n C 2 rfl rfl dX0_relax_59 rfl ?_
      refine j_get0 C 3 rfl (by decide) q28 rfl rfl dX0_relax_60 rfl ?_
      refine j_iload_n C 3 rfl rfl dX0_relax_63 rfl ?_
      refine j_iald (k := near) C 4 rfl rfl hnear (by decide) dX0_relax_64 rfl ?_
      refine j_iload C 6 rfl dX0_relax_65 rfl ?_
      refine j_iadd C dX0_relax_67 rfl ?_
      refine j_iast (k := qa) C 4 (gW h q dZ dB cap clo use (upd len qa ((len near) + cost)) set par que) rfl rfl hqa (by decide) rfl dX0_relax_68 rfl ?_
      have T := T _ [(6, .int 1), (5, .int (nI qa)), (0, .ref h), (1, .int (nI near)), (2, .int (nI pa)), (3, .int (nI qa)), (4, .int cost)] dX0_relax_69
      rw [show g_relax len near pa qa cost = upd len qa ((len near) + cost) from by unfold g_relax; rw [if_pos c_1]; rw [if_neg c_9]] at T
      exact T
def g_set (cap : Nat → Int32) (street : Int32) (v : Int32) : Int32 × (Nat → Int32) := (if (g_isStreet street) = 0 then ((-1), cap) else (if v < 0 then ((-2), cap) else (if v ≤ 20 then (cap street.toNatClampNeg, upd cap street.toNatClampNeg v) else ((-2), cap))))
theorem ds_X0_set : dsc yX0_set 2 := by unfold dsc; decide +kernel
set_option maxHeartbeats 4000000 in
theorem met_X0_set (l : Launch) (D : va_G) (h : Nat) (q : Nat → Nat) (dZ dB : ClassId) (cap clo use len set par que : Nat → Int32) (street : Int32) (v : Int32) : Ctd l yX0_set cX0_set 4 (some .int) (rmk 1 20) [.ref h, .int street, .int v] D (tyZ dZ dB) (gW h q dZ dB cap clo use len set par que) (some (.int ((g_set cap street v).1))) (gW h q dZ dB ((g_set cap street v).2) clo use len set par que) := by
  refine Ctd.ofJi (by decide) (Nat.le_of_ble_eq_true rfl) ?_
  intro p e s m args below meth c A Q C T
  show J p l e (rmk 1 20) s m args below meth c D A 4 0 0 Q (gW h q dZ dB cap clo use len set par que) 0 [(0, .ref h), (1, .int street), (2, .int v)] []
  refine j_iload_n C 1 rfl rfl dX0_set_0 rfl ?_
  refine j_callS C (met_X0_isStreet l D (tyZ dZ dB) street) q53 q54 q15 q55 ds_X0_isStreet ⟨rfl, rfl⟩ ⟨Nat.le_of_ble_eq_true rfl, Nat.le_of_ble_eq_true rfl⟩ rfl (rest := []) rfl (Nat.le_of_ble_eq_true rfl) ⟨Nat.zero_le _, Nat.zero_le _⟩ dX0_set_1 rfl (st' := [.int (g_isStreet street)]) rfl ?_
  refine j_if_ne C 9 dX0_set_4 (by decide) rfl (fun c_1 => ?_) (fun c_1 => ?_)
  · have hstreet1 := isStreet_in c_1
    refine j_lve (lv' := [(0, .ref h), (1, .int (nI street.toNatClampNeg)), (2, .int v)]) (by rw [← hstreet1.1]) ?_
    refine j_iload_n C 2 rfl rfl dX0_set_9 rfl ?_
    refine j_if_lt C 19 dX0_set_10 (by decide) rfl (fun c_2 => ?_) (fun c_2 => ?_)
    · refine j_bipush C (-2) dX0_set_19 (by decide) rfl ?_
      have T := T _ [(0, .ref h), (1, .int (nI street.toNatClampNeg)), (2, .int v)] dX0_set_21
      rw [show g_set cap street v = ((-2), cap) from by unfold g_set; rw [if_neg c_1]; rw [if_pos c_2]] at T
      exact T
    · refine j_iload_n C 2 rfl rfl dX0_set_13 rfl ?_
      refine j_bipush C 20 dX0_set_14 (by decide) rfl ?_
      refine j_icmp_le C 22 dX0_set_16 (by decide) rfl (fun c_3 => ?_) (fun c_3 => ?_)
      · refine j_aload_n C 0 rfl rfl dX0_set_22 rfl ?_
        refine j_get0 C 0 rfl (by decide) q25 rfl rfl dX0_set_23 rfl ?_
        refine j_iload_n C 1 rfl rfl dX0_set_26 rfl ?_
        refine j_iald (k := street.toNatClampNeg) C 1 rfl rfl hstreet1.2 (by decide) dX0_set_27 rfl ?_
        refine j_istore_n C [(3, .int (cap street.toNatClampNeg)), (0, .ref h), (1, .int (nI street.toNatClampNeg)), (2, .int v)] rfl (by decide) rfl dX0_set_28 rfl ?_
        refine j_aload_n C 1 rfl rfl dX0_set_29 rfl ?_
        refine j_get0 C 0 rfl (by decide) q25 rfl rfl dX0_set_30 rfl ?_
        refine j_iload_n C 2 rfl rfl dX0_set_33 rfl ?_
        refine j_iload_n C 3 rfl rfl dX0_set_34 rfl ?_
        refine j_iast (k := street.toNatClampNeg) C 1 (gW h q dZ dB (upd cap street.toNatClampNeg v) clo use len set par que) rfl rfl hstreet1.2 (by decide) rfl dX0_set_35 rfl ?_
        refine j_iload_n C 0 rfl rfl dX0_set_36 rfl ?_
        have T := T _ [(3, .int (cap street.toNatClampNeg)), (0, .ref h), (1, .int (nI street.toNatClampNeg)), (2, .int v)] dX0_set_37
        rw [show g_set cap street v = (cap street.toNatClampNeg, upd cap street.toNatClampNeg v) from by unfold g_set; rw [if_neg c_1]; rw [if_neg c_2]; rw [if_pos c_3]] at T
        exact T
      · refine j_bipush C (-2) dX0_set_19 (by decide) rfl ?_
        have T := T _ [(0, .ref h), (1, .int (nI street.toNatClampNeg)), (2, .int v)] dX0_set_21
        rw [show g_set cap street v = ((-2), cap) from by unfold g_set; rw [if_neg c_1]; rw [if_neg c_2]; rw [if_neg c_3]] at T
        exact T
  · refine j_iconst C (-1) dX0_set_7 (by decide) rfl ?_
    have T := T _ [(0, .ref h), (1, .int street), (2, .int v)] dX0_set_8
    rw [show g_set cap street v = ((-1), cap) from by unfold g_set; rw [if_pos c_1]] at T
    exact T
def g_sow_a_s (seed : Int32) (bend : Int32) (i : Nat) (sum : Int32) (cap : Nat → Int32) : Int32 × (Nat → Int32) := (sum + ((upd cap i (((seed + (7 * (nI i))) + (((nI i) * (nI i)) * bend)) - ((seed + (7 * (nI i))) + (((nI i) * (nI i)) * bend)) / 21 * 21)) i), upd cap i (((seed + (7 * (nI i))) + (((nI i) * (nI i)) * bend)) - ((seed + (7 * (nI i))) + (((nI i) * (nI i)) * bend)) / 21 * 21))
def g_sow_a_l (seed : Int32) (bend : Int32) (sum : Int32) (cap : Nat → Int32) : Int32 × (Nat → Int32) := lpF (fun i z => g_sow_a_s seed bend i z.1 z.2) 17 0 (sum, cap)
def g_sow (cap : Nat → Int32) (seed : Int32) (bend : Int32) : Int32 × (Nat → Int32) := (if seed < 0 then ((-1), cap) else (if seed ≤ 20 then (if bend < 0 then ((-2), cap) else (if bend ≤ 20 then ((g_sow_a_l seed bend 0 cap).1, (g_sow_a_l seed bend 0 cap).2) else ((-2), cap))) else ((-1), cap)))
theorem ds_X0_sow : dsc yX0_sow 2 := by unfold dsc; decide +kernel
set_option maxHeartbeats 4000000 in
theorem met_X0_sow (l : Launch) (D : va_G) (h : Nat) (q : Nat → Nat) (dZ dB : ClassId) (cap clo use len set par que : Nat → Int32) (seed : Int32) (bend : Int32) : Ctd l yX0_sow cX0_sow 5 (some .int) (rmk 0 0) [.ref h, .int seed, .int bend] D (tyZ dZ dB) (gW h q dZ dB cap clo use len set par que) (some (.int ((g_sow cap seed bend).1))) (gW h q dZ dB ((g_sow cap seed bend).2) clo use len set par que) := by
  refine Ctd.ofJi (by decide) (Nat.le_of_ble_eq_true rfl) ?_
  intro p e s m args below meth c A Q C T
  show J p l e (rmk 0 0) s m args below meth c D A 5 0 0 Q (gW h q dZ dB cap clo use len set par que) 0 [(0, .ref h), (1, .int seed), (2, .int bend)] []
  refine j_iload_n C 1 rfl rfl dX0_sow_0 rfl ?_
  refine j_if_lt C 10 dX0_sow_1 (by decide) rfl (fun c_1 => ?_) (fun c_1 => ?_)
  · refine j_iconst C (-1) dX0_sow_10 (by decide) rfl ?_
    have T := T _ [(0, .ref h), (1, .int seed), (2, .int bend)] dX0_sow_11
    rw [show g_sow cap seed bend = ((-1), cap) from by unfold g_sow; rw [if_pos c_1]] at T
    exact T
  · refine j_iload_n C 1 rfl rfl dX0_sow_4 rfl ?_
    refine j_bipush C 20 dX0_sow_5 (by decide) rfl ?_
    refine j_icmp_le C 12 dX0_sow_7 (by decide) rfl (fun c_2 => ?_) (fun c_2 => ?_)
    · refine j_iload_n C 2 rfl rfl dX0_sow_12 rfl ?_
      refine j_if_lt C 22 dX0_sow_13 (by decide) rfl (fun c_3 => ?_) (fun c_3 => ?_)
      · refine j_bipush C (-2) dX0_sow_22 (by decide) rfl ?_
        have T := T _ [(0, .ref h), (1, .int seed), (2, .int bend)] dX0_sow_24
        rw [show g_sow cap seed bend = ((-2), cap) from by unfold g_sow; rw [if_neg c_1]; rw [if_pos c_2]; rw [if_pos c_3]] at T
        exact T
      · refine j_iload_n C 2 rfl rfl dX0_sow_16 rfl ?_
        refine j_bipush C 20 dX0_sow_17 (by decide) rfl ?_
        refine j_icmp_le C 25 dX0_sow_19 (by decide) rfl (fun c_4 => ?_) (fun c_4 => ?_)
        · refine j_iconst C 0 dX0_sow_25 (by decide) rfl ?_
          refine j_istore_n C [(3, .int 0), (0, .ref h), (1, .int seed), (2, .int bend)] rfl (by decide) rfl dX0_sow_26 rfl ?_
          refine j_iconst C 0 dX0_sow_27 (by decide) rfl ?_
          refine j_istore C [(4, .int 0), (3, .int 0), (0, .ref h), (1, .int seed), (2, .int bend)] (by decide) rfl dX0_sow_28 rfl ?_
          refine j_lv [2, 3, 4, 1, 0] (lv' := [(0, .ref h), (1, .int seed), (2, .int bend), (3, .int 0), (4, .int 0)]) rfl ?_
          refine lpF_rule0 (σ := Int32 × (Nat → Int32)) (fun i z => g_sow_a_s seed bend i z.1 z.2) 17 (fun i z => J p l e (rmk 0 0) s m args below meth c D A 5 0 0 Q (gW h q dZ dB z.2 clo use len set par que) 30 [(0, .ref h), (1, .int seed), (2, .int bend), (3, .int z.1), (4, .int (nI i))] []) (fun z => J p l e (rmk 0 0) s m args below meth c D A 5 0 0 Q (gW h q dZ dB z.2 clo use len set par que) 78 [(0, .ref h), (1, .int seed), (2, .int bend), (3, .int z.1)] []) ?_ ?_ (0, cap) ?_
          · rintro ⟨sum, cap⟩ E
            show J p l e (rmk 0 0) s m args below meth c D A 5 0 0 Q (gW h q dZ dB cap clo use len set par que) 30 [(0, .ref h), (1, .int seed), (2, .int bend), (3, .int sum), (4, .int (nI 17))] []
            refine j_iload C 4 rfl dX0_sow_30 rfl ?_
            refine j_bipush C 17 dX0_sow_32 (by decide) rfl ?_
            refine j_icmp_ge C 78 dX0_sow_34 (by decide) rfl (fun _ => ?_) (fun c_5 => absurd (nI_le (a := 17) (b := 17) (by decide) (by decide)) c_5)
            exact j_lv [0, 1, 2, 3] rfl E
          · rintro i ⟨sum, cap⟩ hi K
            show J p l e (rmk 0 0) s m args below meth c D A 5 0 0 Q (gW h q dZ dB cap clo use len set par que) 30 [(0, .ref h), (1, .int seed), (2, .int bend), (3, .int sum), (4, .int (nI i))] []
            refine j_iload C 4 rfl dX0_sow_30 rfl ?_
            refine j_bipush C 17 dX0_sow_32 (by decide) rfl ?_
            refine j_icmp_ge C 78 dX0_sow_34 (by decide) rfl (fun c_6 => absurd c_6 (nI_ge (a := i) (b := 17) hi (by decide))) (fun _ => ?_)
            refine j_aload_n C 0 rfl rfl dX0_sow_37 rfl ?_
            refine j_get0 C 0 rfl (by decide) q25 rfl rfl dX0_sow_38 rfl ?_
            refine j_iload C 4 rfl dX0_sow_41 rfl ?_
            refine j_iload_n C 1 rfl rfl dX0_sow_43 rfl ?_
            refine j_bipush C 7 dX0_sow_44 (by decide) rfl ?_
            refine j_iload C 4 rfl dX0_sow_46 rfl ?_
            refine j_imul C dX0_sow_48 rfl ?_
            refine j_iadd C dX0_sow_49 rfl ?_
            refine j_iload C 4 rfl dX0_sow_50 rfl ?_
            refine j_iload C 4 rfl dX0_sow_52 rfl ?_
            refine j_imul C dX0_sow_54 rfl ?_
            refine j_iload_n C 2 rfl rfl dX0_sow_55 rfl ?_
            refine j_imul C dX0_sow_56 rfl ?_
            refine j_iadd C dX0_sow_57 rfl ?_
            refine j_bipush C 21 dX0_sow_58 (by decide) rfl ?_
            refine j_irem C (by decide) dX0_sow_60 rfl ?_
            refine j_iast (k := i) C 1 (gW h q dZ dB (upd cap i (((seed + (7 * (nI i))) + (((nI i) * (nI i)) * bend)) - ((seed + (7 * (nI i))) + (((nI i) * (nI i)) * bend)) / 21 * 21)) clo use len set par que) rfl rfl hi (by decide) rfl dX0_sow_61 rfl ?_
            refine j_iload_n C 3 rfl rfl dX0_sow_62 rfl ?_
            refine j_aload_n C 0 rfl rfl dX0_sow_63 rfl ?_
            refine j_get0 C 0 rfl (by decide) q25 rfl rfl dX0_sow_64 rfl ?_
            refine j_iload C 4 rfl dX0_sow_67 rfl ?_
            refine j_iald (k := i) C 1 rfl rfl hi (by decide) dX0_sow_69 rfl ?_
            refine j_iadd C dX0_sow_70 rfl ?_
            refine j_istore_n C [(3, .int (sum + ((upd cap i (((seed + (7 * (nI i))) + (((nI i) * (nI i)) * bend)) - ((seed + (7 * (nI i))) + (((nI i) * (nI i)) * bend)) / 21 * 21)) i))), (0, .ref h), (1, .int seed), (2, .int bend), (4, .int (nI i))] rfl (by decide) rfl dX0_sow_71 rfl ?_
            refine j_iinc C [(4, .int (nI (i + 1))), (3, .int (sum + ((upd cap i (((seed + (7 * (nI i))) + (((nI i) * (nI i)) * bend)) - ((seed + (7 * (nI i))) + (((nI i) * (nI i)) * bend)) / 21 * 21)) i))), (0, .ref h), (1, .int seed), (2, .int bend)] 4 rfl (nI_1 _) (by decide) rfl dX0_sow_72 rfl ?_
            refine j_goto C 30 dX0_sow_75 (by decide) ?_
            refine j_lv [2, 3, 4, 1, 0] (lv' := [(0, .ref h), (1, .int seed), (2, .int bend), (3, .int (sum + ((upd cap i (((seed + (7 * (nI i))) + (((nI i) * (nI i)) * bend)) - ((seed + (7 * (nI i))) + (((nI i) * (nI i)) * bend)) / 21 * 21)) i))), (4, .int (nI (i + 1)))]) rfl ?_
            exact K (sum + ((upd cap i (((seed + (7 * (nI i))) + (((nI i) * (nI i)) * bend)) - ((seed + (7 * (nI i))) + (((nI i) * (nI i)) * bend)) / 21 * 21)) i), upd cap i (((seed + (7 * (nI i))) + (((nI i) * (nI i)) * bend)) - ((seed + (7 * (nI i))) + (((nI i) * (nI i)) * bend)) / 21 * 21)) (rfl)
          show J p l e (rmk 0 0) s m args below meth c D A 5 0 0 Q (gW h q dZ dB ((g_sow_a_l seed bend 0 cap).2) clo use len set par que) 78 [(0, .ref h), (1, .int seed), (2, .int bend), (3, .int ((g_sow_a_l seed bend 0 cap).1))] []
          refine j_iload_n C 3 rfl rfl dX0_sow_78 rfl ?_
          have T := T _ [(0, .ref h), (1, .int seed), (2, .int bend), (3, .int ((g_sow_a_l seed bend 0 cap).1))] dX0_sow_79
          rw [show g_sow cap seed bend = ((g_sow_a_l seed bend 0 cap).1, (g_sow_a_l seed bend 0 cap).2) from by unfold g_sow; rw [if_neg c_1]; rw [if_pos c_2]; rw [if_neg c_3]; rw [if_pos c_4]] at T
          exact T
        · refine j_bipush C (-2) dX0_sow_22 (by decide) rfl ?_
          have T := T _ [(0, .ref h), (1, .int seed), (2, .int bend)] dX0_sow_24
          rw [show g_sow cap seed bend = ((-2), cap) from by unfold g_sow; rw [if_neg c_1]; rw [if_pos c_2]; rw [if_neg c_3]; rw [if_neg c_4]] at T
          exact T
    · refine j_iconst C (-1) dX0_sow_10 (by decide) rfl ?_
      have T := T _ [(0, .ref h), (1, .int seed), (2, .int bend)] dX0_sow_11
      rw [show g_sow cap seed bend = ((-1), cap) from by unfold g_sow; rw [if_neg c_1]; rw [if_neg c_2]] at T
      exact T
def g_close (clo : Nat → Int32) (street : Int32) (flag : Int32) : Int32 × (Nat → Int32) := (if (g_isStreet street) = 0 then ((-1), clo) else (if (clo street.toNatClampNeg) = 0 then (if flag = 0 then (0, upd clo street.toNatClampNeg 0) else (0, upd clo street.toNatClampNeg 1)) else (if flag = 0 then (1, upd clo street.toNatClampNeg 0) else (1, upd clo street.toNatClampNeg 1))))
theorem ds_X0_close : dsc yX0_close 2 := by unfold dsc; decide +kernel
set_option maxHeartbeats 4000000 in
theorem met_X0_close (l : Launch) (D : va_G) (h : Nat) (q : Nat → Nat) (dZ dB : ClassId) (cap clo use len set par que : Nat → Int32) (street : Int32) (flag : Int32) : Ctd l yX0_close cX0_close 4 (some .int) (rmk 1 20) [.ref h, .int street, .int flag] D (tyZ dZ dB) (gW h q dZ dB cap clo use len set par que) (some (.int ((g_close clo street flag).1))) (gW h q dZ dB cap ((g_close clo street flag).2) use len set par que) := by
  refine Ctd.ofJi (by decide) (Nat.le_of_ble_eq_true rfl) ?_
  intro p e s m args below meth c A Q C T
  show J p l e (rmk 1 20) s m args below meth c D A 4 0 0 Q (gW h q dZ dB cap clo use len set par que) 0 [(0, .ref h), (1, .int street), (2, .int flag)] []
  refine j_iload_n C 1 rfl rfl dX0_close_0 rfl ?_
  refine j_callS C (met_X0_isStreet l D (tyZ dZ dB) street) q53 q54 q15 q55 ds_X0_isStreet ⟨rfl, rfl⟩ ⟨Nat.le_of_ble_eq_true rfl, Nat.le_of_ble_eq_true rfl⟩ rfl (rest := []) rfl (Nat.le_of_ble_eq_true rfl) ⟨Nat.zero_le _, Nat.zero_le _⟩ dX0_close_1 rfl (st' := [.int (g_isStreet street)]) rfl ?_
  refine j_if_ne C 9 dX0_close_4 (by decide) rfl (fun c_1 => ?_) (fun c_1 => ?_)
  · have hstreet1 := isStreet_in c_1
    refine j_lve (lv' := [(0, .ref h), (1, .int (nI street.toNatClampNeg)), (2, .int flag)]) (by rw [← hstreet1.1]) ?_
    refine j_aload_n C 0 rfl rfl dX0_close_9 rfl ?_
    refine j_get0 C 1 rfl (by decide) q26 rfl rfl dX0_close_10 rfl ?_
    refine j_iload_n C 1 rfl rfl dX0_close_13 rfl ?_
    refine j_zald (k := street.toNatClampNeg) C 2 rfl rfl hstreet1.2 (by decide) dX0_close_14 rfl ?_
    refine j_if_eq C 22 dX0_close_15 (by decide) rfl (fun c_2 => ?_) (fun c_2 => ?_)
    · refine j_iconst C 0 dX0_close_22 (by decide) rfl ?_
      refine j_istore_n C [(3, .int 0), (0, .ref h), (1, .int (nI street.toNatClampNeg)), (2, .int flag)] rfl (by decide) rfl dX0_close_23 rfl ?_
      refine j_aload_n C 1 rfl rfl dX0_close_24 rfl ?_
      refine j_get0 C 1 rfl (by decide) q26 rfl rfl dX0_close_25 rfl ?_
      refine j_iload_n C 2 rfl rfl dX0_close_28 rfl ?_
      refine j_iload_n C 3 rfl rfl dX0_close_29 rfl ?_
      refine j_if_eq C 37 dX0_close_30 (by decide) rfl (fun c_3 => ?_) (fun c_3 => ?_)
      · refine j_iconst C 0 dX0_close_37 (by decide) rfl ?_
        refine j_zast (k := street.toNatClampNeg) C 2 (gW h q dZ dB cap (upd clo street.toNatClampNeg 0) use len set par que) rfl rfl hstreet1.2 (by decide) (by decide) rfl dX0_close_38 rfl ?_
        refine j_iload_n C 0 rfl rfl dX0_close_39 rfl ?_
        have T := T _ [(3, .int 0), (0, .ref h), (1, .int (nI street.toNatClampNeg)), (2, .int flag)] dX0_close_40
        rw [show g_close clo street flag = (0, upd clo street.toNatClampNeg 0) from by unfold g_close; rw [if_neg c_1]; rw [if_pos c_2]; rw [if_pos c_3]] at T
        exact T
      · refine j_iconst C 1 dX0_close_33 (by decide) rfl ?_
        refine j_goto C 38 dX0_close_34 (by decide) ?_
        refine j_zast (k := street.toNatClampNeg) C 2 (gW h q dZ dB cap (upd clo street.toNatClampNeg 1) use len set par que) rfl rfl hstreet1.2 (by decide) (by decide) rfl dX0_close_38 rfl ?_
        refine j_iload_n C 0 rfl rfl dX0_close_39 rfl ?_
        have T := T _ [(3, .int 0), (0, .ref h), (1, .int (nI street.toNatClampNeg)), (2, .int flag)] dX0_close_40
        rw [show g_close clo street flag = (0, upd clo street.toNatClampNeg 1) from by unfold g_close; rw [if_neg c_1]; rw [if_pos c_2]; rw [if_neg c_3]] at T
        exact T
    · refine j_iconst C 1 dX0_close_18 (by decide) rfl ?_
      refine j_goto C 23 dX0_close_19 (by decide) ?_
      refine j_istore_n C [(3, .int 1), (0, .ref h), (1, .int (nI street.toNatClampNeg)), (2, .int flag)] rfl (by decide) rfl dX0_close_23 rfl ?_
      refine j_aload_n C 1 rfl rfl dX0_close_24 rfl ?_
      refine j_get0 C 1 rfl (by decide) q26 rfl rfl dX0_close_25 rfl ?_
      refine j_iload_n C 2 rfl rfl dX0_close_28 rfl ?_
      refine j_iload_n C 3 rfl rfl dX0_close_29 rfl ?_
      refine j_if_eq C 37 dX0_close_30 (by decide) rfl (fun c_4 => ?_) (fun c_4 => ?_)
      · refine j_iconst C 0 dX0_close_37 (by decide) rfl ?_
        refine j_zast (k := street.toNatClampNeg) C 2 (gW h q dZ dB cap (upd clo street.toNatClampNeg 0) use len set par que) rfl rfl hstreet1.2 (by decide) (by decide) rfl dX0_close_38 rfl ?_
        refine j_iload_n C 0 rfl rfl dX0_close_39 rfl ?_
        have T := T _ [(3, .int 1), (0, .ref h), (1, .int (nI street.toNatClampNeg)), (2, .int flag)] dX0_close_40
        rw [show g_close clo street flag = (1, upd clo street.toNatClampNeg 0) from by unfold g_close; rw [if_neg c_1]; rw [if_neg c_2]; rw [if_pos c_4]] at T
        exact T
      · refine j_iconst C 1 dX0_close_33 (by decide) rfl ?_
        refine j_goto C 38 dX0_close_34 (by decide) ?_
        refine j_zast (k := street.toNatClampNeg) C 2 (gW h q dZ dB cap (upd clo street.toNatClampNeg 1) use len set par que) rfl rfl hstreet1.2 (by decide) (by decide) rfl dX0_close_38 rfl ?_
        refine j_iload_n C 0 rfl rfl dX0_close_39 rfl ?_
        have T := T _ [(3, .int 1), (0, .ref h), (1, .int (nI street.toNatClampNeg)), (2, .int flag)] dX0_close_40
        rw [show g_close clo street flag = (1, upd clo street.toNatClampNeg 1) from by unfold g_close; rw [if_neg c_1]; rw [if_neg c_2]; rw [if_neg c_4]] at T
        exact T
  · refine j_iconst C (-1) dX0_close_7 (by decide) rfl ?_
    have T := T _ [(0, .ref h), (1, .int street), (2, .int flag)] dX0_close_8
    rw [show g_close clo street flag = ((-1), clo) from by unfold g_close; rw [if_pos c_1]] at T
    exact T
def g_capacity (cap : Nat → Int32) (street : Int32) : Int32 := (if (g_isStreet street) = 0 then (-1) else cap street.toNatClampNeg)
theorem ds_X0_capacity : dsc yX0_capacity 1 := by unfold dsc; decide +kernel
set_option maxHeartbeats 4000000 in
theorem met_X0_capacity (l : Launch) (D : va_G) (h : Nat) (q : Nat → Nat) (dZ dB : ClassId) (cap clo use len set par que : Nat → Int32) (street : Int32) : Ctd l yX0_capacity cX0_capacity 2 (some .int) (rmk 1 20) [.ref h, .int street] D (tyZ dZ dB) (gW h q dZ dB cap clo use len set par que) (some (.int (g_capacity cap street))) (gW h q dZ dB cap clo use len set par que) := by
  refine Ctd.ofJi (by decide) (Nat.le_of_ble_eq_true rfl) ?_
  intro p e s m args below meth c A Q C T
  show J p l e (rmk 1 20) s m args below meth c D A 2 0 0 Q (gW h q dZ dB cap clo use len set par que) 0 [(0, .ref h), (1, .int street)] []
  refine j_iload_n C 1 rfl rfl dX0_capacity_0 rfl ?_
  refine j_callS C (met_X0_isStreet l D (tyZ dZ dB) street) q53 q54 q15 q55 ds_X0_isStreet ⟨rfl, rfl⟩ ⟨Nat.le_of_ble_eq_true rfl, Nat.le_of_ble_eq_true rfl⟩ rfl (rest := []) rfl (Nat.le_of_ble_eq_true rfl) ⟨Nat.zero_le _, Nat.zero_le _⟩ dX0_capacity_1 rfl (st' := [.int (g_isStreet street)]) rfl ?_
  refine j_if_eq C 16 dX0_capacity_4 (by decide) rfl (fun c_1 => ?_) (fun c_1 => ?_)
  · refine j_iconst C (-1) dX0_capacity_16 (by decide) rfl ?_
    have T := T _ [(0, .ref h), (1, .int street)] dX0_capacity_17
    rw [show g_capacity cap street = (-1) from by unfold g_capacity; rw [if_pos c_1]] at T
    exact T
  · have hstreet1 := isStreet_in c_1
    refine j_lve (lv' := [(0, .ref h), (1, .int (nI street.toNatClampNeg))]) (by rw [← hstreet1.1]) ?_
    refine j_aload_n C 0 rfl rfl dX0_capacity_7 rfl ?_
    refine j_get0 C 0 rfl (by decide) q25 rfl rfl dX0_capacity_8 rfl ?_
    refine j_iload_n C 1 rfl rfl dX0_capacity_11 rfl ?_
    refine j_iald (k := street.toNatClampNeg) C 1 rfl rfl hstreet1.2 (by decide) dX0_capacity_12 rfl ?_
    refine j_goto C 17 dX0_capacity_13 (by decide) ?_
    have T := T _ [(0, .ref h), (1, .int (nI street.toNatClampNeg))] dX0_capacity_17
    rw [show g_capacity cap street = cap street.toNatClampNeg from by unfold g_capacity; rw [if_neg c_1]] at T
    exact T
def g_between_a_s (a : Int32) (b : Int32) (i : Nat)  : (Unit) ⊕ (Int32) := (if (nI (fe i)) = a then (if (nI (se i)) = b then (if (nI (fe i)) = b then (if (nI (se i)) = a then (.inr (nI i)) else (.inr (nI i))) else (.inr (nI i))) else (if (nI (fe i)) = b then (if (nI (se i)) = a then (.inr (nI i)) else (.inl ())) else (.inl ()))) else (if (nI (fe i)) = b then (if (nI (se i)) = a then (.inr (nI i)) else (.inl ())) else (.inl ())))
def g_between_a_l (a : Int32) (b : Int32)  : (Unit) ⊕ (Int32) := lpE (fun i z => g_between_a_s a b i ) 17 0 ()
def g_between (a : Int32) (b : Int32) : Int32 := (if (g_isCrossing a) = 0 then (-1) else (if (g_isCrossing b) = 0 then (-1) else (match g_between_a_l a b  with | .inl () => (-2) | .inr r_28 => r_28)))
theorem ds_X0_between : dsc yX0_between 2 := by unfold dsc; decide +kernel
set_option maxHeartbeats 4000000 in
theorem met_X0_between (l : Launch) (D : va_G) (h : Nat) (q : Nat → Nat) (dZ dB : ClassId) (cap clo use len set par que : Nat → Int32) (a : Int32) (b : Int32) : Ctd l yX0_between cX0_between 6 (some .int) (rmk 1 20) [.ref h, .int a, .int b] D (tyZ dZ dB) (gW h q dZ dB cap clo use len set par que) (some (.int (g_between a b))) (gW h q dZ dB cap clo use len set par que) := by
  refine Ctd.ofJi (by decide) (Nat.le_of_ble_eq_true rfl) ?_
  intro p e s m args below meth c A Q C T
  show J p l e (rmk 1 20) s m args below meth c D A 6 0 0 Q (gW h q dZ dB cap clo use len set par que) 0 [(0, .ref h), (1, .int a), (2, .int b)] []
  refine j_iload_n C 1 rfl rfl dX0_between_0 rfl ?_
  refine j_callS C (met_X0_isCrossing l D (tyZ dZ dB) a) q72 q73 q15 q74 ds_X0_isCrossing ⟨rfl, rfl⟩ ⟨Nat.le_of_ble_eq_true rfl, Nat.le_of_ble_eq_true rfl⟩ rfl (rest := []) rfl (Nat.le_of_ble_eq_true rfl) ⟨Nat.zero_le _, Nat.zero_le _⟩ dX0_between_1 rfl (st' := [.int (g_isCrossing a)]) rfl ?_
  refine j_if_eq C 14 dX0_between_4 (by decide) rfl (fun c_1 => ?_) (fun c_1 => ?_)
  · refine j_iconst C (-1) dX0_between_14 (by decide) rfl ?_
    have T := T _ [(0, .ref h), (1, .int a), (2, .int b)] dX0_between_15
    rw [show g_between a b = (-1) from by unfold g_between; rw [if_pos c_1]] at T
    exact T
  · refine j_iload_n C 2 rfl rfl dX0_between_7 rfl ?_
    refine j_callS C (met_X0_isCrossing l D (tyZ dZ dB) b) q72 q73 q15 q74 ds_X0_isCrossing ⟨rfl, rfl⟩ ⟨Nat.le_of_ble_eq_true rfl, Nat.le_of_ble_eq_true rfl⟩ rfl (rest := []) rfl (Nat.le_of_ble_eq_true rfl) ⟨Nat.zero_le _, Nat.zero_le _⟩ dX0_between_8 rfl (st' := [.int (g_isCrossing b)]) rfl ?_
    refine j_if_ne C 16 dX0_between_11 (by decide) rfl (fun c_2 => ?_) (fun c_2 => ?_)
    · refine j_iconst C 0 dX0_between_16 (by decide) rfl ?_
      refine j_istore_n C [(3, .int 0), (0, .ref h), (1, .int a), (2, .int b)] rfl (by decide) rfl dX0_between_17 rfl ?_
      refine j_lv [1, 2, 3, 0] (lv' := [(0, .ref h), (1, .int a), (2, .int b), (3, .int 0)]) rfl ?_
      refine lpE_rule (σ := Unit) (ρ := Int32) (fun i z => g_between_a_s a b i ) 17 (fun i z => J p l e (rmk 1 20) s m args below meth c D A 6 0 0 Q (gW h q dZ dB cap clo use len set par que) 18 [(0, .ref h), (1, .int a), (2, .int b), (3, .int (nI i))] []) (fun z => J p l e (rmk 1 20) s m args below meth c D A 6 0 0 Q (gW h q dZ dB cap clo use len set par que) 88 [(0, .ref h), (1, .int a), (2, .int b)] []) (fun r => ∀ pc lv, decode cX0_between pc = .ok (.ireturn, 1) → J p l e (rmk 1 20) s m args below meth c D A 6 0 0 Q (gW h q dZ dB cap clo use len set par que) pc lv [.int r]) (fun _ _ => True) ?_ ?_ (fun _ _ _ _ _ _ => trivial) 17 0 () (Nat.zero_add 17) trivial ?_ ?_
      · rintro ⟨⟩ - E
        show J p l e (rmk 1 20) s m args below meth c D A 6 0 0 Q (gW h q dZ dB cap clo use len set par que) 18 [(0, .ref h), (1, .int a), (2, .int b), (3, .int (nI 17))] []
        refine j_iload_n C 3 rfl rfl dX0_between_18 rfl ?_
        refine j_bipush C 17 dX0_between_19 (by decide) rfl ?_
        refine j_icmp_ge C 88 dX0_between_21 (by decide) rfl (fun _ => ?_) (fun c_3 => absurd (nI_le (a := 17) (b := 17) (by decide) (by decide)) c_3)
        exact j_lv [0, 1, 2] rfl E
      · rintro i ⟨⟩ hi hI K K2
        show J p l e (rmk 1 20) s m args below meth c D A 6 0 0 Q (gW h q dZ dB cap clo use len set par que) 18 [(0, .ref h), (1, .int a), (2, .int b), (3, .int (nI i))] []
        refine j_iload_n C 3 rfl rfl dX0_between_18 rfl ?_
        refine j_bipush C 17 dX0_between_19 (by decide) rfl ?_
        refine j_icmp_ge C 88 dX0_between_21 (by decide) rfl (fun c_4 => absurd c_4 (nI_ge (a := i) (b := 17) hi (by decide))) (fun _ => ?_)
        refine j_iload_n C 3 rfl rfl dX0_between_24 rfl ?_
        refine j_callS C (met_X0_firstEnd l D (tyZ dZ dB) i hi) q75 q76 q15 q77 ds_X0_firstEnd ⟨rfl, rfl⟩ ⟨Nat.le_of_ble_eq_true rfl, Nat.le_of_ble_eq_true rfl⟩ rfl (rest := []) rfl (Nat.le_of_ble_eq_true rfl) ⟨Nat.zero_le _, Nat.zero_le _⟩ dX0_between_25 rfl (st' := [.int (nI (fe i))]) rfl ?_
        refine j_iload_n C 1 rfl rfl dX0_between_28 rfl ?_
        refine j_icmp_ne C 44 dX0_between_29 (by decide) rfl (fun c_5 => ?_) (fun c_5 => ?_)
        · refine j_iconst C 0 dX0_between_44 (by decide) rfl ?_
          refine j_istore C [(4, .int 0), (0, .ref h), (1, .int a), (2, .int b), (3, .int (nI i))] (by decide) rfl dX0_between_45 rfl ?_
          refine j_iload_n C 4 rfl rfl dX0_between_47 rfl ?_
          refine j_callS C (met_X0_firstEnd l D (tyZ dZ dB) i hi) q75 q76 q15 q77 ds_X0_firstEnd ⟨rfl, rfl⟩ ⟨Nat.le_of_ble_eq_true rfl, Nat.le_of_ble_eq_true rfl⟩ rfl (rest := []) rfl (Nat.le_of_ble_eq_true rfl) ⟨Nat.zero_le _, Nat.zero_le _⟩ dX0_between_48 rfl (st' := [.int (nI (fe i))]) rfl ?_
          refine j_iload_n C 3 rfl rfl dX0_between_51 rfl ?_
          refine j_icmp_ne C 67 dX0_between_52 (by decide) rfl (fun c_6 => ?_) (fun c_6 => ?_)
          · refine j_iconst C 0 dX0_between_67 (by decide) rfl ?_
            refine j_istore C [(5, .int 0), (4, .int 0), (0, .ref h), (1, .int a), (2, .int b), (3, .int (nI i))] (by decide) rfl dX0_between_68 rfl ?_
            refine j_iload C 1 rfl dX0_between_70 rfl ?_
            refine j_if_ne C 80 dX0_between_72 (by decide) rfl (fun c_7 => absurd (by decide) c_7) (fun _ => ?_)
            refine j_iload C 0 rfl dX0_between_75 rfl ?_
            refine j_if_eq C 82 dX0_between_77 (by decide) rfl (fun _ => ?_) (fun c_8 => absurd (by decide) c_8)
            refine j_iinc C [(3, .int (nI (i + 1))), (5, .int 0), (4, .int 0), (0, .ref h), (1, .int a), (2, .int b)] 5 rfl (nI_1 _) (by decide) rfl dX0_between_82 rfl ?_
            refine j_goto C 18 dX0_between_85 (by decide) ?_
            refine j_lv [3, 4, 5, 0] (lv' := [(0, .ref h), (1, .int a), (2, .int b), (3, .int (nI (i + 1)))]) rfl ?_
            exact K () (by show _ = g_between_a_s a b i ; unfold g_between_a_s; rw [if_neg c_5]; rw [if_neg c_6])
          · refine j_iload_n C 4 rfl rfl dX0_between_55 rfl ?_
            refine j_callS C (met_X0_secondEnd l D (tyZ dZ dB) i hi) q78 q79 q15 q80 ds_X0_secondEnd ⟨rfl, rfl⟩ ⟨Nat.le_of_ble_eq_true rfl, Nat.le_of_ble_eq_true rfl⟩ rfl (rest := []) rfl (Nat.le_of_ble_eq_true rfl) ⟨Nat.zero_le _, Nat.zero_le _⟩ dX0_between_56 rfl (st' := [.int (nI (se i))]) rfl ?_
            refine j_iload_n C 2 rfl rfl dX0_between_59 rfl ?_
            refine j_icmp_ne C 67 dX0_between_60 (by decide) rfl (fun c_9 => ?_) (fun c_9 => ?_)
            · refine j_iconst C 0 dX0_between_67 (by decide) rfl ?_
              refine j_istore C [(5, .int 0), (4, .int 0), (0, .ref h), (1, .int a), (2, .int b), (3, .int (nI i))] (by decide) rfl dX0_between_68 rfl ?_
              refine j_iload C 1 rfl dX0_between_70 rfl ?_
              refine j_if_ne C 80 dX0_between_72 (by decide) rfl (fun c_10 => absurd (by decide) c_10) (fun _ => ?_)
              refine j_iload C 0 rfl dX0_between_75 rfl ?_
              refine j_if_eq C 82 dX0_between_77 (by decide) rfl (fun _ => ?_) (fun c_11 => absurd (by decide) c_11)
              refine j_iinc C [(3, .int (nI (i + 1))), (5, .int 0), (4, .int 0), (0, .ref h), (1, .int a), (2, .int b)] 5 rfl (nI_1 _) (by decide) rfl dX0_between_82 rfl ?_
              refine j_goto C 18 dX0_between_85 (by decide) ?_
              refine j_lv [3, 4, 5, 0] (lv' := [(0, .ref h), (1, .int a), (2, .int b), (3, .int (nI (i + 1)))]) rfl ?_
              exact K () (by show _ = g_between_a_s a b i ; unfold g_between_a_s; rw [if_neg c_5]; rw [if_pos c_6]; rw [if_neg c_9])
            · refine j_iconst C 1 dX0_between_63 (by decide) rfl ?_
              refine j_goto C 68 dX0_between_64 (by decide) ?_
              refine j_istore C [(5, .int 1), (4, .int 0), (0, .ref h), (1, .int a), (2, .int b), (3, .int (nI i))] (by decide) rfl dX0_between_68 rfl ?_
              refine j_iload C 1 rfl dX0_between_70 rfl ?_
              refine j_if_ne C 80 dX0_between_72 (by decide) rfl (fun c_12 => absurd (by decide) c_12) (fun _ => ?_)
              refine j_iload C 0 rfl dX0_between_75 rfl ?_
              refine j_if_eq C 82 dX0_between_77 (by decide) rfl (fun c_13 => absurd c_13 (by decide)) (fun _ => ?_)
              refine j_iload_n C 5 rfl rfl dX0_between_80 rfl ?_
              exact K2 (nI i) (by show _ = g_between_a_s a b i ; unfold g_between_a_s; rw [if_neg c_5]; rw [if_pos c_6]; rw [if_pos c_9]) _ _ dX0_between_81
        · refine j_iload_n C 3 rfl rfl dX0_between_32 rfl ?_
          refine j_callS C (met_X0_secondEnd l D (tyZ dZ dB) i hi) q78 q79 q15 q80 ds_X0_secondEnd ⟨rfl, rfl⟩ ⟨Nat.le_of_ble_eq_true rfl, Nat.le_of_ble_eq_true rfl⟩ rfl (rest := []) rfl (Nat.le_of_ble_eq_true rfl) ⟨Nat.zero_le _, Nat.zero_le _⟩ dX0_between_33 rfl (st' := [.int (nI (se i))]) rfl ?_
          refine j_iload_n C 2 rfl rfl dX0_between_36 rfl ?_
          refine j_icmp_ne C 44 dX0_between_37 (by decide) rfl (fun c_14 => ?_) (fun c_14 => ?_)
          · refine j_iconst C 0 dX0_between_44 (by decide) rfl ?_
            refine j_istore C [(4, .int 0), (0, .ref h), (1, .int a), (2, .int b), (3, .int (nI i))] (by decide) rfl dX0_between_45 rfl ?_
            refine j_iload_n C 4 rfl rfl dX0_between_47 rfl ?_
            refine j_callS C (met_X0_firstEnd l D (tyZ dZ dB) i hi) q75 q76 q15 q77 ds_X0_firstEnd ⟨rfl, rfl⟩ ⟨Nat.le_of_ble_eq_true rfl, Nat.le_of_ble_eq_true rfl⟩ rfl (rest := []) rfl (Nat.le_of_ble_eq_true rfl) ⟨Nat.zero_le _, Nat.zero_le _⟩ dX0_between_48 rfl (st' := [.int (nI (fe i))]) rfl ?_
            refine j_iload_n C 3 rfl rfl dX0_between_51 rfl ?_
            refine j_icmp_ne C 67 dX0_between_52 (by decide) rfl (fun c_15 => ?_) (fun c_15 => ?_)
            · refine j_iconst C 0 dX0_between_67 (by decide) rfl ?_
              refine j_istore C [(5, .int 0), (4, .int 0), (0, .ref h), (1, .int a), (2, .int b), (3, .int (nI i))] (by decide) rfl dX0_between_68 rfl ?_
              refine j_iload C 1 rfl dX0_between_70 rfl ?_
              refine j_if_ne C 80 dX0_between_72 (by decide) rfl (fun c_16 => absurd (by decide) c_16) (fun _ => ?_)
              refine j_iload C 0 rfl dX0_between_75 rfl ?_
              refine j_if_eq C 82 dX0_between_77 (by decide) rfl (fun _ => ?_) (fun c_17 => absurd (by decide) c_17)
              refine j_iinc C [(3, .int (nI (i + 1))), (5, .int 0), (4, .int 0), (0, .ref h), (1, .int a), (2, .int b)] 5 rfl (nI_1 _) (by decide) rfl dX0_between_82 rfl ?_
              refine j_goto C 18 dX0_between_85 (by decide) ?_
              refine j_lv [3, 4, 5, 0] (lv' := [(0, .ref h), (1, .int a), (2, .int b), (3, .int (nI (i + 1)))]) rfl ?_
              exact K () (by show _ = g_between_a_s a b i ; unfold g_between_a_s; rw [if_pos c_5]; rw [if_neg c_14]; rw [if_neg c_15])
            · refine j_iload_n C 4 rfl rfl dX0_between_55 rfl ?_
              refine j_callS C (met_X0_secondEnd l D (tyZ dZ dB) i hi) q78 q79 q15 q80 ds_X0_secondEnd ⟨rfl, rfl⟩ ⟨Nat.le_of_ble_eq_true rfl, Nat.le_of_ble_eq_true rfl⟩ rfl (rest := []) rfl (Nat.le_of_ble_eq_true rfl) ⟨Nat.zero_le _, Nat.zero_le _⟩ dX0_between_56 rfl (st' := [.int (nI (se i))]) rfl ?_
              refine j_iload_n C 2 rfl rfl dX0_between_59 rfl ?_
              refine j_icmp_ne C 67 dX0_between_60 (by decide) rfl (fun c_18 => ?_) (fun c_18 => ?_)
              · refine j_iconst C 0 dX0_between_67 (by decide) rfl ?_
                refine j_istore C [(5, .int 0), (4, .int 0), (0, .ref h), (1, .int a), (2, .int b), (3, .int (nI i))] (by decide) rfl dX0_between_68 rfl ?_
                refine j_iload C 1 rfl dX0_between_70 rfl ?_
                refine j_if_ne C 80 dX0_between_72 (by decide) rfl (fun c_19 => absurd (by decide) c_19) (fun _ => ?_)
                refine j_iload C 0 rfl dX0_between_75 rfl ?_
                refine j_if_eq C 82 dX0_between_77 (by decide) rfl (fun _ => ?_) (fun c_20 => absurd (by decide) c_20)
                refine j_iinc C [(3, .int (nI (i + 1))), (5, .int 0), (4, .int 0), (0, .ref h), (1, .int a), (2, .int b)] 5 rfl (nI_1 _) (by decide) rfl dX0_between_82 rfl ?_
                refine j_goto C 18 dX0_between_85 (by decide) ?_
                refine j_lv [3, 4, 5, 0] (lv' := [(0, .ref h), (1, .int a), (2, .int b), (3, .int (nI (i + 1)))]) rfl ?_
                exact K () (by show _ = g_between_a_s a b i ; unfold g_between_a_s; rw [if_pos c_5]; rw [if_neg c_14]; rw [if_pos c_15]; rw [if_neg c_18])
              · refine j_iconst C 1 dX0_between_63 (by decide) rfl ?_
                refine j_goto C 68 dX0_between_64 (by decide) ?_
                refine j_istore C [(5, .int 1), (4, .int 0), (0, .ref h), (1, .int a), (2, .int b), (3, .int (nI i))] (by decide) rfl dX0_between_68 rfl ?_
                refine j_iload C 1 rfl dX0_between_70 rfl ?_
                refine j_if_ne C 80 dX0_between_72 (by decide) rfl (fun c_21 => absurd (by decide) c_21) (fun _ => ?_)
                refine j_iload C 0 rfl dX0_between_75 rfl ?_
                refine j_if_eq C 82 dX0_between_77 (by decide) rfl (fun c_22 => absurd c_22 (by decide)) (fun _ => ?_)
                refine j_iload_n C 5 rfl rfl dX0_between_80 rfl ?_
                exact K2 (nI i) (by show _ = g_between_a_s a b i ; unfold g_between_a_s; rw [if_pos c_5]; rw [if_neg c_14]; rw [if_pos c_15]; rw [if_pos c_18]) _ _ dX0_between_81
          · refine j_iconst C 1 dX0_between_40 (by decide) rfl ?_
            refine j_goto C 45 dX0_between_41 (by decide) ?_
            refine j_istore C [(4, .int 1), (0, .ref h), (1, .int a), (2, .int b), (3, .int (nI i))] (by decide) rfl dX0_between_45 rfl ?_
            refine j_iload_n C 4 rfl rfl dX0_between_47 rfl ?_
            refine j_callS C (met_X0_firstEnd l D (tyZ dZ dB) i hi) q75 q76 q15 q77 ds_X0_firstEnd ⟨rfl, rfl⟩ ⟨Nat.le_of_ble_eq_true rfl, Nat.le_of_ble_eq_true rfl⟩ rfl (rest := []) rfl (Nat.le_of_ble_eq_true rfl) ⟨Nat.zero_le _, Nat.zero_le _⟩ dX0_between_48 rfl (st' := [.int (nI (fe i))]) rfl ?_
            refine j_iload_n C 3 rfl rfl dX0_between_51 rfl ?_
            refine j_icmp_ne C 67 dX0_between_52 (by decide) rfl (fun c_23 => ?_) (fun c_23 => ?_)
            · refine j_iconst C 0 dX0_between_67 (by decide) rfl ?_
              refine j_istore C [(5, .int 0), (4, .int 1), (0, .ref h), (1, .int a), (2, .int b), (3, .int (nI i))] (by decide) rfl dX0_between_68 rfl ?_
              refine j_iload C 1 rfl dX0_between_70 rfl ?_
              refine j_if_ne C 80 dX0_between_72 (by decide) rfl (fun _ => ?_) (fun c_24 => absurd c_24 (by decide))
              refine j_iload_n C 5 rfl rfl dX0_between_80 rfl ?_
              exact K2 (nI i) (by show _ = g_between_a_s a b i ; unfold g_between_a_s; rw [if_pos c_5]; rw [if_pos c_14]; rw [if_neg c_23]) _ _ dX0_between_81
            · refine j_iload_n C 4 rfl rfl dX0_between_55 rfl ?_
              refine j_callS C (met_X0_secondEnd l D (tyZ dZ dB) i hi) q78 q79 q15 q80 ds_X0_secondEnd ⟨rfl, rfl⟩ ⟨Nat.le_of_ble_eq_true rfl, Nat.le_of_ble_eq_true rfl⟩ rfl (rest := []) rfl (Nat.le_of_ble_eq_true rfl) ⟨Nat.zero_le _, Nat.zero_le _⟩ dX0_between_56 rfl (st' := [.int (nI (se i))]) rfl ?_
              refine j_iload_n C 2 rfl rfl dX0_between_59 rfl ?_
              refine j_icmp_ne C 67 dX0_between_60 (by decide) rfl (fun c_25 => ?_) (fun c_25 => ?_)
              · refine j_iconst C 0 dX0_between_67 (by decide) rfl ?_
                refine j_istore C [(5, .int 0), (4, .int 1), (0, .ref h), (1, .int a), (2, .int b), (3, .int (nI i))] (by decide) rfl dX0_between_68 rfl ?_
                refine j_iload C 1 rfl dX0_between_70 rfl ?_
                refine j_if_ne C 80 dX0_between_72 (by decide) rfl (fun _ => ?_) (fun c_26 => absurd c_26 (by decide))
                refine j_iload_n C 5 rfl rfl dX0_between_80 rfl ?_
                exact K2 (nI i) (by show _ = g_between_a_s a b i ; unfold g_between_a_s; rw [if_pos c_5]; rw [if_pos c_14]; rw [if_pos c_23]; rw [if_neg c_25]) _ _ dX0_between_81
              · refine j_iconst C 1 dX0_between_63 (by decide) rfl ?_
                refine j_goto C 68 dX0_between_64 (by decide) ?_
                refine j_istore C [(5, .int 1), (4, .int 1), (0, .ref h), (1, .int a), (2, .int b), (3, .int (nI i))] (by decide) rfl dX0_between_68 rfl ?_
                refine j_iload C 1 rfl dX0_between_70 rfl ?_
                refine j_if_ne C 80 dX0_between_72 (by decide) rfl (fun _ => ?_) (fun c_27 => absurd c_27 (by decide))
                refine j_iload_n C 5 rfl rfl dX0_between_80 rfl ?_
                exact K2 (nI i) (by show _ = g_between_a_s a b i ; unfold g_between_a_s; rw [if_pos c_5]; rw [if_pos c_14]; rw [if_pos c_23]; rw [if_pos c_25]) _ _ dX0_between_81
      · intro s_28 e_28 hE
        have e_28 : g_between_a_l a b  = .inl () := e_28
        show J p l e (rmk 1 20) s m args below meth c D A 6 0 0 Q (gW h q dZ dB cap clo use len set par que) 88 [(0, .ref h), (1, .int a), (2, .int b)] []
        refine j_bipush C (-2) dX0_between_88 (by decide) rfl ?_
        have T := T _ [(0, .ref h), (1, .int a), (2, .int b)] dX0_between_90
        rw [show g_between a b = (-2) from by unfold g_between; rw [if_neg c_1]; rw [if_neg c_2]; rw [e_28]; try dsimp only] at T
        exact T
      · intro r_28 e_28
        have e_28 : g_between_a_l a b  = .inr r_28 := e_28
        intro pc lv d
        have T := T pc lv d
        rw [show g_between a b = r_28 from by unfold g_between; rw [if_neg c_1]; rw [if_neg c_2]; rw [e_28]; try dsimp only] at T
        exact T
    · refine j_iconst C (-1) dX0_between_14 (by decide) rfl ?_
      have T := T _ [(0, .ref h), (1, .int a), (2, .int b)] dX0_between_15
      rw [show g_between a b = (-1) from by unfold g_between; rw [if_neg c_1]; rw [if_pos c_2]] at T
      exact T
def g_weight_a_s (cap : Nat → Int32) (clo : Nat → Int32) (cut : Int32) (i : Nat) (sum : Int32) : Int32 := (if (((cut >>> ((nI (fe i)) &&& 31)) ^^^ (cut >>> ((nI (se i)) &&& 31))) &&& 1) = 1 then sum + (g_room cap clo i) else sum + 0)
def g_weight_a_l (cap : Nat → Int32) (clo : Nat → Int32) (cut : Int32) (sum : Int32) : Int32 := lpF (fun i z => g_weight_a_s cap clo cut i z) 17 0 sum
def g_weight (cap : Nat → Int32) (clo : Nat → Int32) (cut : Int32) : Int32 := (if cut < 0 then (-1) else (if cut ≤ 4095 then (if (cut &&& 1) = 0 then (-2) else (if ((cut >>> (11 &&& 31)) &&& 1) = 1 then (-3) else g_weight_a_l cap clo cut 0)) else (-1)))
theorem ds_X0_weight : dsc yX0_weight 1 := by unfold dsc; decide +kernel
set_option maxHeartbeats 4000000 in
theorem met_X0_weight (l : Launch) (D : va_G) (h : Nat) (q : Nat → Nat) (dZ dB : ClassId) (cap clo use len set par que : Nat → Int32) (cut : Int32) : Ctd l yX0_weight cX0_weight 5 (some .int) (rmk 1 21) [.ref h, .int cut] D (tyZ dZ dB) (gW h q dZ dB cap clo use len set par que) (some (.int (g_weight cap clo cut))) (gW h q dZ dB cap clo use len set par que) := by
  refine Ctd.ofJi (by decide) (Nat.le_of_ble_eq_true rfl) ?_
  intro p e s m args below meth c A Q C T
  show J p l e (rmk 1 21) s m args below meth c D A 5 0 0 Q (gW h q dZ dB cap clo use len set par que) 0 [(0, .ref h), (1, .int cut)] []
  refine j_iload_n C 1 rfl rfl dX0_weight_0 rfl ?_
  refine j_if_lt C 11 dX0_weight_1 (by decide) rfl (fun c_1 => ?_) (fun c_1 => ?_)
  · refine j_iconst C (-1) dX0_weight_11 (by decide) rfl ?_
    have T := T _ [(0, .ref h), (1, .int cut)] dX0_weight_12
    rw [show g_weight cap clo cut = (-1) from by unfold g_weight; rw [if_pos c_1]] at T
    exact T
  · refine j_iload_n C 1 rfl rfl dX0_weight_4 rfl ?_
    refine j_sipush C 4095 dX0_weight_5 (by decide) rfl ?_
    refine j_icmp_le C 13 dX0_weight_8 (by decide) rfl (fun c_2 => ?_) (fun c_2 => ?_)
    · refine j_iload_n C 1 rfl rfl dX0_weight_13 rfl ?_
      refine j_iconst C 1 dX0_weight_14 (by decide) rfl ?_
      refine j_iand C dX0_weight_15 rfl ?_
      refine j_if_ne C 22 dX0_weight_16 (by decide) rfl (fun c_3 => ?_) (fun c_3 => ?_)
      · refine j_iload_n C 1 rfl rfl dX0_weight_22 rfl ?_
        refine j_bipush C 11 dX0_weight_23 (by decide) rfl ?_
        refine j_ishr C dX0_weight_25 rfl ?_
        refine j_iconst C 1 dX0_weight_26 (by decide) rfl ?_
        refine j_iand C dX0_weight_27 rfl ?_
        refine j_iconst C 1 dX0_weight_28 (by decide) rfl ?_
        refine j_icmp_ne C 35 dX0_weight_29 (by decide) rfl (fun c_4 => ?_) (fun c_4 => ?_)
        · refine j_iconst C 0 dX0_weight_35 (by decide) rfl ?_
          refine j_istore_n C [(2, .int 0), (0, .ref h), (1, .int cut)] rfl (by decide) rfl dX0_weight_36 rfl ?_
          refine j_iconst C 0 dX0_weight_37 (by decide) rfl ?_
          refine j_istore_n C [(3, .int 0), (2, .int 0), (0, .ref h), (1, .int cut)] rfl (by decide) rfl dX0_weight_38 rfl ?_
          refine j_lv [2, 3, 1, 0] (lv' := [(0, .ref h), (1, .int cut), (2, .int 0), (3, .int 0)]) rfl ?_
          refine lpF_rule0 (σ := Int32) (fun i z => g_weight_a_s cap clo cut i z) 17 (fun i z => J p l e (rmk 1 21) s m args below meth c D A 5 0 0 Q (gW h q dZ dB cap clo use len set par que) 39 [(0, .ref h), (1, .int cut), (2, .int z), (3, .int (nI i))] []) (fun z => J p l e (rmk 1 21) s m args below meth c D A 5 0 0 Q (gW h q dZ dB cap clo use len set par que) 86 [(0, .ref h), (1, .int cut), (2, .int z)] []) ?_ ?_ 0 ?_
          · rintro sum E
            show J p l e (rmk 1 21) s m args below meth c D A 5 0 0 Q (gW h q dZ dB cap clo use len set par que) 39 [(0, .ref h), (1, .int cut), (2, .int sum), (3, .int (nI 17))] []
            refine j_iload_n C 3 rfl rfl dX0_weight_39 rfl ?_
            refine j_bipush C 17 dX0_weight_40 (by decide) rfl ?_
            refine j_icmp_ge C 86 dX0_weight_42 (by decide) rfl (fun _ => ?_) (fun c_5 => absurd (nI_le (a := 17) (b := 17) (by decide) (by decide)) c_5)
            exact j_lv [0, 1, 2] rfl E
          · rintro i sum hi K
            show J p l e (rmk 1 21) s m args below meth c D A 5 0 0 Q (gW h q dZ dB cap clo use len set par que) 39 [(0, .ref h), (1, .int cut), (2, .int sum), (3, .int (nI i))] []
            refine j_iload_n C 3 rfl rfl dX0_weight_39 rfl ?_
            refine j_bipush C 17 dX0_weight_40 (by decide) rfl ?_
            refine j_icmp_ge C 86 dX0_weight_42 (by decide) rfl (fun c_6 => absurd c_6 (nI_ge (a := i) (b := 17) hi (by decide))) (fun _ => ?_)
            refine j_iload_n C 1 rfl rfl dX0_weight_45 rfl ?_
            refine j_iload_n C 3 rfl rfl dX0_weight_46 rfl ?_
            refine j_callS C (met_X0_firstEnd l D (tyZ dZ dB) i hi) q75 q76 q15 q77 ds_X0_firstEnd ⟨rfl, rfl⟩ ⟨Nat.le_of_ble_eq_true rfl, Nat.le_of_ble_eq_true rfl⟩ rfl (rest := [.int cut]) rfl (Nat.le_of_ble_eq_true rfl) ⟨Nat.zero_le _, Nat.zero_le _⟩ dX0_weight_47 rfl (st' := [.int (nI (fe i)), .int cut]) rfl ?_
            refine j_ishr C dX0_weight_50 rfl ?_
            refine j_iload_n C 1 rfl rfl dX0_weight_51 rfl ?_
            refine j_iload_n C 3 rfl rfl dX0_weight_52 rfl ?_
            refine j_callS C (met_X0_secondEnd l D (tyZ dZ dB) i hi) q78 q79 q15 q80 ds_X0_secondEnd ⟨rfl, rfl⟩ ⟨Nat.le_of_ble_eq_true rfl, Nat.le_of_ble_eq_true rfl⟩ rfl (rest := [.int cut, .int (cut >>> ((nI (fe i)) &&& 31))]) rfl (Nat.le_of_ble_eq_true rfl) ⟨Nat.zero_le _, Nat.zero_le _⟩ dX0_weight_53 rfl (st' := [.int (nI (se i)), .int cut, .int (cut >>> ((nI (fe i)) &&& 31))]) rfl ?_
            refine j_ishr C dX0_weight_56 rfl ?_
            refine j_ixor C dX0_weight_57 rfl ?_
            refine j_istore C [(4, .int ((cut >>> ((nI (fe i)) &&& 31)) ^^^ (cut >>> ((nI (se i)) &&& 31)))), (0, .ref h), (1, .int cut), (2, .int sum), (3, .int (nI i))] (by decide) rfl dX0_weight_58 rfl ?_
            refine j_iload_n C 3 rfl rfl dX0_weight_60 rfl ?_
            refine j_iload C 0 rfl dX0_weight_61 rfl ?_
            refine j_iconst C 1 dX0_weight_63 (by decide) rfl ?_
            refine j_iand C dX0_weight_64 rfl ?_
            refine j_iconst C 1 dX0_weight_65 (by decide) rfl ?_
            refine j_icmp_ne C 77 dX0_weight_66 (by decide) rfl (fun c_7 => ?_) (fun c_7 => ?_)
            · refine j_iconst C 0 dX0_weight_77 (by decide) rfl ?_
              refine j_iadd C dX0_weight_78 rfl ?_
              refine j_istore_n C [(2, .int (sum + 0)), (4, .int ((cut >>> ((nI (fe i)) &&& 31)) ^^^ (cut >>> ((nI (se i)) &&& 31)))), (0, .ref h), (1, .int cut), (3, .int (nI i))] rfl (by decide) rfl dX0_weight_79 rfl ?_
              refine j_iinc C [(3, .int (nI (i + 1))), (2, .int (sum + 0)), (4, .int ((cut >>> ((nI (fe i)) &&& 31)) ^^^ (cut >>> ((nI (se i)) &&& 31)))), (0, .ref h), (1, .int cut)] 4 rfl (nI_1 _) (by decide) rfl dX0_weight_80 rfl ?_
              refine j_goto C 39 dX0_weight_83 (by decide) ?_
              refine j_lv [3, 4, 1, 0] (lv' := [(0, .ref h), (1, .int cut), (2, .int (sum + 0)), (3, .int (nI (i + 1)))]) rfl ?_
              exact K (sum + 0) (by show _ = g_weight_a_s cap clo cut i sum; unfold g_weight_a_s; rw [if_neg c_7])
            · refine j_aload_n C 1 rfl rfl dX0_weight_69 rfl ?_
              refine j_iload_n C 4 rfl rfl dX0_weight_70 rfl ?_
              refine j_callV C (met_X0_room l D h q dZ dB cap clo use len set par que i hi) q96 q98 qs1 q15 q99 ds_X0_room ⟨rfl, rfl⟩ ⟨Nat.le_of_ble_eq_true rfl, Nat.le_of_ble_eq_true rfl⟩ rfl (rest := [.int sum]) rfl rfl rfl rfl (Nat.le_of_ble_eq_true rfl) ⟨Nat.zero_le _, Nat.zero_le _⟩ dX0_weight_71 rfl (st' := [.int (g_room cap clo i), .int sum]) rfl ?_
              refine j_goto C 78 dX0_weight_74 (by decide) ?_
              refine j_iadd C dX0_weight_78 rfl ?_
              refine j_istore_n C [(2, .int (sum + (g_room cap clo i))), (4, .int ((cut >>> ((nI (fe i)) &&& 31)) ^^^ (cut >>> ((nI (se i)) &&& 31)))), (0, .ref h), (1, .int cut), (3, .int (nI i))] rfl (by decide) rfl dX0_weight_79 rfl ?_
              refine j_iinc C [(3, .int (nI (i + 1))), (2, .int (sum + (g_room cap clo i))), (4, .int ((cut >>> ((nI (fe i)) &&& 31)) ^^^ (cut >>> ((nI (se i)) &&& 31)))), (0, .ref h), (1, .int cut)] 4 rfl (nI_1 _) (by decide) rfl dX0_weight_80 rfl ?_
              refine j_goto C 39 dX0_weight_83 (by decide) ?_
              refine j_lv [3, 4, 1, 0] (lv' := [(0, .ref h), (1, .int cut), (2, .int (sum + (g_room cap clo i))), (3, .int (nI (i + 1)))]) rfl ?_
              exact K (sum + (g_room cap clo i)) (by show _ = g_weight_a_s cap clo cut i sum; unfold g_weight_a_s; rw [if_pos c_7])
          show J p l e (rmk 1 21) s m args below meth c D A 5 0 0 Q (gW h q dZ dB cap clo use len set par que) 86 [(0, .ref h), (1, .int cut), (2, .int (g_weight_a_l cap clo cut 0))] []
          refine j_iload_n C 2 rfl rfl dX0_weight_86 rfl ?_
          have T := T _ [(0, .ref h), (1, .int cut), (2, .int (g_weight_a_l cap clo cut 0))] dX0_weight_87
          rw [show g_weight cap clo cut = g_weight_a_l cap clo cut 0 from by unfold g_weight; rw [if_neg c_1]; rw [if_pos c_2]; rw [if_neg c_3]; rw [if_neg c_4]] at T
          exact T
        · refine j_bipush C (-3) dX0_weight_32 (by decide) rfl ?_
          have T := T _ [(0, .ref h), (1, .int cut)] dX0_weight_34
          rw [show g_weight cap clo cut = (-3) from by unfold g_weight; rw [if_neg c_1]; rw [if_pos c_2]; rw [if_neg c_3]; rw [if_pos c_4]] at T
          exact T
      · refine j_bipush C (-2) dX0_weight_19 (by decide) rfl ?_
        have T := T _ [(0, .ref h), (1, .int cut)] dX0_weight_21
        rw [show g_weight cap clo cut = (-2) from by unfold g_weight; rw [if_neg c_1]; rw [if_pos c_2]; rw [if_pos c_3]] at T
        exact T
    · refine j_iconst C (-1) dX0_weight_11 (by decide) rfl ?_
      have T := T _ [(0, .ref h), (1, .int cut)] dX0_weight_12
      rw [show g_weight cap clo cut = (-1) from by unfold g_weight; rw [if_neg c_1]; rw [if_neg c_2]] at T
      exact T
end
section
set_option maxRecDepth 100000
def g_reached_b_s (cap : Nat → Int32) (clo : Nat → Int32) (use : Nat → Int32) (on : Int32) (j : Nat) (acc : Int32) : Int32 := (if (nI (j % 2)) = 0 then (if on = 0 then (if ((acc >>> ((nI (fe (j / 2))) &&& 31)) &&& 1) = 1 then (if (g_left cap clo use (j / 2) (nI (se (j / 2)))) ≤ 0 then acc else acc ||| (1 <<< ((nI (se (j / 2))) &&& 31))) else acc) else (if ((acc >>> ((nI (fe (j / 2))) &&& 31)) &&& 1) = 1 then (if (g_left cap clo use (j / 2) (nI (fe (j / 2)))) ≤ 0 then acc else acc ||| (1 <<< ((nI (se (j / 2))) &&& 31))) else acc)) else (if on = 0 then (if ((acc >>> ((nI (se (j / 2))) &&& 31)) &&& 1) = 1 then (if (g_left cap clo use (j / 2) (nI (fe (j / 2)))) ≤ 0 then acc else acc ||| (1 <<< ((nI (fe (j / 2))) &&& 31))) else acc) else (if ((acc >>> ((nI (se (j / 2))) &&& 31)) &&& 1) = 1 then (if (g_left cap clo use (j / 2) (nI (se (j / 2)))) ≤ 0 then acc else acc ||| (1 <<< ((nI (fe (j / 2))) &&& 31))) else acc)))
def g_reached_b_l (cap : Nat → Int32) (clo : Nat → Int32) (use : Nat → Int32) (on : Int32) (acc : Int32) : Int32 := lpF (fun j z => g_reached_b_s cap clo use on j z) 34 0 acc
def g_reached_a_s (cap : Nat → Int32) (clo : Nat → Int32) (use : Nat → Int32) (on : Int32) (i : Nat) (acc : Int32) : Int32 := g_reached_b_l cap clo use on acc
def g_reached_a_l (cap : Nat → Int32) (clo : Nat → Int32) (use : Nat → Int32) (on : Int32) (acc : Int32) : Int32 := lpF (fun i z => g_reached_a_s cap clo use on i z) 12 0 acc
def g_reached (cap : Nat → Int32) (clo : Nat → Int32) (use : Nat → Int32) (start : Int32) (on : Int32) : Int32 := g_reached_a_l cap clo use on start
theorem ds_X0_reached : dsc yX0_reached 2 := by unfold dsc; decide +kernel
set_option maxHeartbeats 4000000 in
theorem met_X0_reached (l : Launch) (D : va_G) (h : Nat) (q : Nat → Nat) (dZ dB : ClassId) (cap clo use len set par que : Nat → Int32) (start : Int32) (on : Int32) : Ctd l yX0_reached cX0_reached 10 (some .int) (rmk 2 43) [.ref h, .int start, .int on] D (tyZ dZ dB) (gW h q dZ dB cap clo use len set par que) (some (.int (g_reached cap clo use start on))) (gW h q dZ dB cap clo use len set par que) := by
  refine Ctd.ofJi (by decide) (Nat.le_of_ble_eq_true rfl) ?_
  intro p e s m args below meth c A Q C T
  show J p l e (rmk 2 43) s m args below meth c D A 10 0 0 Q (gW h q dZ dB cap clo use len set par que) 0 [(0, .ref h), (1, .int start), (2, .int on)] []
  refine j_iload_n C 1 rfl rfl dX0_reached_0 rfl ?_
  refine j_istore_n C [(3, .int start), (0, .ref h), (1, .int start), (2, .int on)] rfl (by decide) rfl dX0_reached_1 rfl ?_
  refine j_iconst C 0 dX0_reached_2 (by decide) rfl ?_
  refine j_istore C [(4, .int 0), (3, .int start), (0, .ref h), (1, .int start), (2, .int on)] (by decide) rfl dX0_reached_3 rfl ?_
  refine j_lv [2, 4, 1, 0] (lv' := [(0, .ref h), (2, .int on), (3, .int start), (4, .int 0)]) rfl ?_
  refine lpF_rule0 (σ := Int32) (fun i z => g_reached_a_s cap clo use on i z) 12 (fun i z => J p l e (rmk 2 43) s m args below meth c D A 10 0 0 Q (gW h q dZ dB cap clo use len set par que) 5 [(0, .ref h), (2, .int on), (3, .int z), (4, .int (nI i))] []) (fun z => J p l e (rmk 2 43) s m args below meth c D A 10 0 0 Q (gW h q dZ dB cap clo use len set par que) 118 [(0, .ref h), (2, .int on), (3, .int z)] []) ?_ ?_ start ?_
  · rintro acc E
    show J p l e (rmk 2 43) s m args below meth c D A 10 0 0 Q (gW h q dZ dB cap clo use len set par que) 5 [(0, .ref h), (2, .int on), (3, .int acc), (4, .int (nI 12))] []
    refine j_iload C 3 rfl dX0_reached_5 rfl ?_
    refine j_bipush C 12 dX0_reached_7 (by decide) rfl ?_
    refine j_icmp_ge C 118 dX0_reached_9 (by decide) rfl (fun _ => ?_) (fun c_1 => absurd (nI_le (a := 12) (b := 12) (by decide) (by decide)) c_1)
    exact j_lv [0, 1, 2] rfl E
  · rintro i acc hi K
    show J p l e (rmk 2 43) s m args below meth c D A 10 0 0 Q (gW h q dZ dB cap clo use len set par que) 5 [(0, .ref h), (2, .int on), (3, .int acc), (4, .int (nI i))] []
    refine j_iload C 3 rfl dX0_reached_5 rfl ?_
    refine j_bipush C 12 dX0_reached_7 (by decide) rfl ?_
    refine j_icmp_ge C 118 dX0_reached_9 (by decide) rfl (fun c_2 => absurd c_2 (nI_ge (a := i) (b := 12) hi (by decide))) (fun _ => ?_)
    refine j_iconst C 0 dX0_reached_12 (by decide) rfl ?_
    refine j_istore C [(5, .int 0), (0, .ref h), (2, .int on), (3, .int acc), (4, .int (nI i))] (by decide) rfl dX0_reached_13 rfl ?_
    refine j_lv [1, 2, 4, 3, 0] (lv' := [(0, .ref h), (2, .int on), (4, .int (nI i)), (3, .int acc), (5, .int 0)]) rfl ?_
    refine lpF_rule0 (σ := Int32) (fun j z => g_reached_b_s cap clo use on j z) 34 (fun j z => J p l e (rmk 2 43) s m args below meth c D A 10 0 0 Q (gW h q dZ dB cap clo use len set par que) 15 [(0, .ref h), (2, .int on), (4, .int (nI i)), (3, .int z), (5, .int (nI j))] []) (fun z => J p l e (rmk 2 43) s m args below meth c D A 10 0 0 Q (gW h q dZ dB cap clo use len set par que) 112 [(0, .ref h), (2, .int on), (4, .int (nI i)), (3, .int z)] []) ?_ ?_ acc ?_
    · rintro acc E
      show J p l e (rmk 2 43) s m args below meth c D A 10 0 0 Q (gW h q dZ dB cap clo use len set par que) 15 [(0, .ref h), (2, .int on), (4, .int (nI i)), (3, .int acc), (5, .int (nI 34))] []
      refine j_iload C 4 rfl dX0_reached_15 rfl ?_
      refine j_bipush C 34 dX0_reached_17 (by decide) rfl ?_
      refine j_icmp_ge C 112 dX0_reached_19 (by decide) rfl (fun _ => ?_) (fun c_3 => absurd (nI_le (a := 34) (b := 34) (by decide) (by decide)) c_3)
      exact j_lv [0, 1, 2, 3] rfl E
    · rintro j acc hj K
      show J p l e (rmk 2 43) s m args below meth c D A 10 0 0 Q (gW h q dZ dB cap clo use len set par que) 15 [(0, .ref h), (2, .int on), (4, .int (nI i)), (3, .int acc), (5, .int (nI j))] []
      refine j_iload C 4 rfl dX0_reached_15 rfl ?_
      refine j_bipush C 34 dX0_reached_17 (by decide) rfl ?_
      refine j_icmp_ge C 112 dX0_reached_19 (by decide) rfl (fun c_4 => absurd c_4 (nI_ge (a := j) (b := 34) hj (by decide))) (fun _ => ?_)
      refine j_iload C 4 rfl dX0_reached_22 rfl ?_
      refine j_iconst C 1 dX0_reached_24 (by decide) rfl ?_
      refine j_ishr C dX0_reached_25 rfl ?_
      refine j_top (shr1 hj) ?_
      refine j_istore C [(6, .int (nI (j / 2))), (0, .ref h), (2, .int on), (4, .int (nI i)), (3, .int acc), (5, .int (nI j))] (by decide) rfl dX0_reached_26 rfl ?_
      refine j_iload C 5 rfl dX0_reached_28 rfl ?_
      refine j_iconst C 1 dX0_reached_30 (by decide) rfl ?_
      refine j_iand C dX0_reached_31 rfl ?_
      refine j_top (and1 hj) ?_
      refine j_if_ne C 43 dX0_reached_32 (by decide) rfl (fun c_5 => ?_) (fun c_5 => ?_)
      · refine j_iload C 0 rfl dX0_reached_43 rfl ?_
        refine j_callS C (met_X0_secondEnd l D (tyZ dZ dB) (j / 2) (by omega)) q78 q79 q15 q80 ds_X0_secondEnd ⟨rfl, rfl⟩ ⟨Nat.le_of_ble_eq_true rfl, Nat.le_of_ble_eq_true rfl⟩ rfl (rest := []) rfl (Nat.le_of_ble_eq_true rfl) ⟨Nat.zero_le _, Nat.zero_le _⟩ dX0_reached_45 rfl (st' := [.int (nI (se (j / 2)))]) rfl ?_
        refine j_istore C [(7, .int (nI (se (j / 2)))), (6, .int (nI (j / 2))), (0, .ref h), (2, .int on), (4, .int (nI i)), (3, .int acc), (5, .int (nI j))] (by decide) rfl dX0_reached_48 rfl ?_
        refine j_iload C 1 rfl dX0_reached_50 rfl ?_
        refine j_iload C 0 rfl dX0_reached_52 rfl ?_
        refine j_callS C (met_X0_otherEnd l D (tyZ dZ dB) (j / 2) (nI (se (j / 2))) (by omega)) q120 q121 q15 q122 ds_X0_otherEnd ⟨rfl, rfl⟩ ⟨Nat.le_of_ble_eq_true rfl, Nat.le_of_ble_eq_true rfl⟩ rfl (rest := []) rfl (Nat.le_of_ble_eq_true rfl) ⟨Nat.zero_le _, Nat.zero_le _⟩ dX0_reached_54 rfl (st' := [.int (g_otherEnd (j / 2) (nI (se (j / 2))))]) rfl ?_
        refine j_top (oe_se (by omega)) ?_
        refine j_istore C [(8, .int (nI (fe (j / 2)))), (7, .int (nI (se (j / 2)))), (6, .int (nI (j / 2))), (0, .ref h), (2, .int on), (4, .int (nI i)), (3, .int acc), (5, .int (nI j))] (by decide) rfl dX0_reached_57 rfl ?_
        refine j_iload_n C 4 rfl rfl dX0_reached_59 rfl ?_
        refine j_if_eq C 74 dX0_reached_60 (by decide) rfl (fun c_6 => ?_) (fun c_6 => ?_)
        · refine j_aload_n C 3 rfl rfl dX0_reached_74 rfl ?_
          refine j_iload C 2 rfl dX0_reached_75 rfl ?_
          refine j_iload C 0 rfl dX0_reached_77 rfl ?_
          refine j_callV C (met_X0_left l D h q dZ dB cap clo use len set par que (j / 2) (nI (fe (j / 2))) (by omega)) q123 q125 qs5 q15 q126 ds_X0_left ⟨rfl, rfl⟩ ⟨Nat.le_of_ble_eq_true rfl, Nat.le_of_ble_eq_true rfl⟩ rfl (rest := []) rfl rfl rfl rfl (Nat.le_of_ble_eq_true rfl) ⟨Nat.zero_le _, Nat.zero_le _⟩ dX0_reached_79 rfl (st' := [.int (g_left cap clo use (j / 2) (nI (fe (j / 2))))]) rfl ?_
          refine j_istore C [(9, .int (g_left cap clo use (j / 2) (nI (fe (j / 2))))), (8, .int (nI (fe (j / 2)))), (7, .int (nI (se (j / 2)))), (6, .int (nI (j / 2))), (0, .ref h), (2, .int on), (4, .int (nI i)), (3, .int acc), (5, .int (nI j))] (by decide) rfl dX0_reached_82 rfl ?_
          refine j_iload_n C 7 rfl rfl dX0_reached_84 rfl ?_
          refine j_iload C 2 rfl dX0_reached_85 rfl ?_
          refine j_ishr C dX0_reached_87 rfl ?_
          refine j_iconst C 1 dX0_reached_88 (by decide) rfl ?_
          refine j_iand C dX0_reached_89 rfl ?_
          refine j_iconst C 1 dX0_reached_90 (by decide) rfl ?_
          refine j_icmp_ne C 106 dX0_reached_91 (by decide) rfl (fun c_7 => ?_) (fun c_7 => ?_)
          · refine j_iinc C [(5, .int (nI (j + 1))), (9, .int (g_left cap clo use (j / 2) (nI (fe (j / 2))))), (8, .int (nI (fe (j / 2)))), (7, .int (nI (se (j / 2)))), (6, .int (nI (j / 2))), (0, .ref h), (2, .int on), (4, .int (nI i)), (3, .int acc)] 8 rfl (nI_1 _) (by decide) rfl dX0_reached_106 rfl ?_
            refine j_goto C 15 dX0_reached_109 (by decide) ?_
            refine j_lv [5, 6, 7, 8, 0] (lv' := [(0, .ref h), (2, .int on), (4, .int (nI i)), (3, .int acc), (5, .int (nI (j + 1)))]) rfl ?_
            exact K acc (by show _ = g_reached_b_s cap clo use on j acc; unfold g_reached_b_s; rw [if_neg c_5]; rw [if_pos c_6]; rw [if_neg c_7])
          · refine j_iload C 0 rfl dX0_reached_94 rfl ?_
            refine j_if_le C 106 dX0_reached_96 (by decide) rfl (fun c_8 => ?_) (fun c_8 => ?_)
            · refine j_iinc C [(5, .int (nI (j + 1))), (9, .int (g_left cap clo use (j / 2) (nI (fe (j / 2))))), (8, .int (nI (fe (j / 2)))), (7, .int (nI (se (j / 2)))), (6, .int (nI (j / 2))), (0, .ref h), (2, .int on), (4, .int (nI i)), (3, .int acc)] 8 rfl (nI_1 _) (by decide) rfl dX0_reached_106 rfl ?_
              refine j_goto C 15 dX0_reached_109 (by decide) ?_
              refine j_lv [5, 6, 7, 8, 0] (lv' := [(0, .ref h), (2, .int on), (4, .int (nI i)), (3, .int acc), (5, .int (nI (j + 1)))]) rfl ?_
              exact K acc (by show _ = g_reached_b_s cap clo use on j acc; unfold g_reached_b_s; rw [if_neg c_5]; rw [if_pos c_6]; rw [if_pos c_7]; rw [if_pos c_8])
            · refine j_iload_n C 7 rfl rfl dX0_reached_99 rfl ?_
              refine j_iconst C 1 dX0_reached_100 (by decide) rfl ?_
              refine j_iload C 1 rfl dX0_reached_101 rfl ?_
              refine j_ishl C dX0_reached_103 rfl ?_
              refine j_ior C dX0_reached_104 rfl ?_
              refine j_istore_n C [(3, .int (acc ||| (1 <<< ((nI (fe (j / 2))) &&& 31)))), (9, .int (g_left cap clo use (j / 2) (nI (fe (j / 2))))), (8, .int (nI (fe (j / 2)))), (7, .int (nI (se (j / 2)))), (6, .int (nI (j / 2))), (0, .ref h), (2, .int on), (4, .int (nI i)), (5, .int (nI j))] rfl (by decide) rfl dX0_reached_105 rfl ?_
              refine j_iinc C [(5, .int (nI (j + 1))), (3, .int (acc ||| (1 <<< ((nI (fe (j / 2))) &&& 31)))), (9, .int (g_left cap clo use (j / 2) (nI (fe (j / 2))))), (8, .int (nI (fe (j / 2)))), (7, .int (nI (se (j / 2)))), (6, .int (nI (j / 2))), (0, .ref h), (2, .int on), (4, .int (nI i))] 8 rfl (nI_1 _) (by decide) rfl dX0_reached_106 rfl ?_
              refine j_goto C 15 dX0_reached_109 (by decide) ?_
              refine j_lv [6, 7, 8, 1, 0] (lv' := [(0, .ref h), (2, .int on), (4, .int (nI i)), (3, .int (acc ||| (1 <<< ((nI (fe (j / 2))) &&& 31)))), (5, .int (nI (j + 1)))]) rfl ?_
              exact K (acc ||| (1 <<< ((nI (fe (j / 2))) &&& 31))) (by show _ = g_reached_b_s cap clo use on j acc; unfold g_reached_b_s; rw [if_neg c_5]; rw [if_pos c_6]; rw [if_pos c_7]; rw [if_neg c_8])
        · refine j_aload_n C 3 rfl rfl dX0_reached_63 rfl ?_
          refine j_iload C 2 rfl dX0_reached_64 rfl ?_
          refine j_iload C 1 rfl dX0_reached_66 rfl ?_
          refine j_callV C (met_X0_left l D h q dZ dB cap clo use len set par que (j / 2) (nI (se (j / 2))) (by omega)) q123 q125 qs5 q15 q126 ds_X0_left ⟨rfl, rfl⟩ ⟨Nat.le_of_ble_eq_true rfl, Nat.le_of_ble_eq_true rfl⟩ rfl (rest := []) rfl rfl rfl rfl (Nat.le_of_ble_eq_true rfl) ⟨Nat.zero_le _, Nat.zero_le _⟩ dX0_reached_68 rfl (st' := [.int (g_left cap clo use (j / 2) (nI (se (j / 2))))]) rfl ?_
          refine j_goto C 82 dX0_reached_71 (by decide) ?_
          refine j_istore C [(9, .int (g_left cap clo use (j / 2) (nI (se (j / 2))))), (8, .int (nI (fe (j / 2)))), (7, .int (nI (se (j / 2)))), (6, .int (nI (j / 2))), (0, .ref h), (2, .int on), (4, .int (nI i)), (3, .int acc), (5, .int (nI j))] (by decide) rfl dX0_reached_82 rfl ?_
          refine j_iload_n C 7 rfl rfl dX0_reached_84 rfl ?_
          refine j_iload C 2 rfl dX0_reached_85 rfl ?_
          refine j_ishr C dX0_reached_87 rfl ?_
          refine j_iconst C 1 dX0_reached_88 (by decide) rfl ?_
          refine j_iand C dX0_reached_89 rfl ?_
          refine j_iconst C 1 dX0_reached_90 (by decide) rfl ?_
          refine j_icmp_ne C 106 dX0_reached_91 (by decide) rfl (fun c_9 => ?_) (fun c_9 => ?_)
          · refine j_iinc C [(5, .int (nI (j + 1))), (9, .int (g_left cap clo use (j / 2) (nI (se (j / 2))))), (8, .int (nI (fe (j / 2)))), (7, .int (nI (se (j / 2)))), (6, .int (nI (j / 2))), (0, .ref h), (2, .int on), (4, .int (nI i)), (3, .int acc)] 8 rfl (nI_1 _) (by decide) rfl dX0_reached_106 rfl ?_
            refine j_goto C 15 dX0_reached_109 (by decide) ?_
            refine j_lv [5, 6, 7, 8, 0] (lv' := [(0, .ref h), (2, .int on), (4, .int (nI i)), (3, .int acc), (5, .int (nI (j + 1)))]) rfl ?_
            exact K acc (by show _ = g_reached_b_s cap clo use on j acc; unfold g_reached_b_s; rw [if_neg c_5]; rw [if_neg c_6]; rw [if_neg c_9])
          · refine j_iload C 0 rfl dX0_reached_94 rfl ?_
            refine j_if_le C 106 dX0_reached_96 (by decide) rfl (fun c_10 => ?_) (fun c_10 => ?_)
            · refine j_iinc C [(5, .int (nI (j + 1))), (9, .int (g_left cap clo use (j / 2) (nI (se (j / 2))))), (8, .int (nI (fe (j / 2)))), (7, .int (nI (se (j / 2)))), (6, .int (nI (j / 2))), (0, .ref h), (2, .int on), (4, .int (nI i)), (3, .int acc)] 8 rfl (nI_1 _) (by decide) rfl dX0_reached_106 rfl ?_
              refine j_goto C 15 dX0_reached_109 (by decide) ?_
              refine j_lv [5, 6, 7, 8, 0] (lv' := [(0, .ref h), (2, .int on), (4, .int (nI i)), (3, .int acc), (5, .int (nI (j + 1)))]) rfl ?_
              exact K acc (by show _ = g_reached_b_s cap clo use on j acc; unfold g_reached_b_s; rw [if_neg c_5]; rw [if_neg c_6]; rw [if_pos c_9]; rw [if_pos c_10])
            · refine j_iload_n C 7 rfl rfl dX0_reached_99 rfl ?_
              refine j_iconst C 1 dX0_reached_100 (by decide) rfl ?_
              refine j_iload C 1 rfl dX0_reached_101 rfl ?_
              refine j_ishl C dX0_reached_103 rfl ?_
              refine j_ior C dX0_reached_104 rfl ?_
              refine j_istore_n C [(3, .int (acc ||| (1 <<< ((nI (fe (j / 2))) &&& 31)))), (9, .int (g_left cap clo use (j / 2) (nI (se (j / 2))))), (8, .int (nI (fe (j / 2)))), (7, .int (nI (se (j / 2)))), (6, .int (nI (j / 2))), (0, .ref h), (2, .int on), (4, .int (nI i)), (5, .int (nI j))] rfl (by decide) rfl dX0_reached_105 rfl ?_
              refine j_iinc C [(5, .int (nI (j + 1))), (3, .int (acc ||| (1 <<< ((nI (fe (j / 2))) &&& 31)))), (9, .int (g_left cap clo use (j / 2) (nI (se (j / 2))))), (8, .int (nI (fe (j / 2)))), (7, .int (nI (se (j / 2)))), (6, .int (nI (j / 2))), (0, .ref h), (2, .int on), (4, .int (nI i))] 8 rfl (nI_1 _) (by decide) rfl dX0_reached_106 rfl ?_
              refine j_goto C 15 dX0_reached_109 (by decide) ?_
              refine j_lv [6, 7, 8, 1, 0] (lv' := [(0, .ref h), (2, .int on), (4, .int (nI i)), (3, .int (acc ||| (1 <<< ((nI (fe (j / 2))) &&& 31)))), (5, .int (nI (j + 1)))]) rfl ?_
              exact K (acc ||| (1 <<< ((nI (fe (j / 2))) &&& 31))) (by show _ = g_reached_b_s cap clo use on j acc; unfold g_reached_b_s; rw [if_neg c_5]; rw [if_neg c_6]; rw [if_pos c_9]; rw [if_neg c_10])
      · refine j_iload C 0 rfl dX0_reached_35 rfl ?_
        refine j_callS C (met_X0_firstEnd l D (tyZ dZ dB) (j / 2) (by omega)) q75 q76 q15 q77 ds_X0_firstEnd ⟨rfl, rfl⟩ ⟨Nat.le_of_ble_eq_true rfl, Nat.le_of_ble_eq_true rfl⟩ rfl (rest := []) rfl (Nat.le_of_ble_eq_true rfl) ⟨Nat.zero_le _, Nat.zero_le _⟩ dX0_reached_37 rfl (st' := [.int (nI (fe (j / 2)))]) rfl ?_
        refine j_goto C 48 dX0_reached_40 (by decide) ?_
        refine j_istore C [(7, .int (nI (fe (j / 2)))), (6, .int (nI (j / 2))), (0, .ref h), (2, .int on), (4, .int (nI i)), (3, .int acc), (5, .int (nI j))] (by decide) rfl dX0_reached_48 rfl ?_
        refine j_iload C 1 rfl dX0_reached_50 rfl ?_
        refine j_iload C 0 rfl dX0_reached_52 rfl ?_
        refine j_callS C (met_X0_otherEnd l D (tyZ dZ dB) (j / 2) (nI (fe (j / 2))) (by omega)) q120 q121 q15 q122 ds_X0_otherEnd ⟨rfl, rfl⟩ ⟨Nat.le_of_ble_eq_true rfl, Nat.le_of_ble_eq_true rfl⟩ rfl (rest := []) rfl (Nat.le_of_ble_eq_true rfl) ⟨Nat.zero_le _, Nat.zero_le _⟩ dX0_reached_54 rfl (st' := [.int (g_otherEnd (j / 2) (nI (fe (j / 2))))]) rfl ?_
        refine j_top oe_fe ?_
        refine j_istore C [(8, .int (nI (se (j / 2)))), (7, .int (nI (fe (j / 2)))), (6, .int (nI (j / 2))), (0, .ref h), (2, .int on), (4, .int (nI i)), (3, .int acc), (5, .int (nI j))] (by decide) rfl dX0_reached_57 rfl ?_
        refine j_iload_n C 4 rfl rfl dX0_reached_59 rfl ?_
        refine j_if_eq C 74 dX0_reached_60 (by decide) rfl (fun c_11 => ?_) (fun c_11 => ?_)
        · refine j_aload_n C 3 rfl rfl dX0_reached_74 rfl ?_
          refine j_iload C 2 rfl dX0_reached_75 rfl ?_
          refine j_iload C 0 rfl dX0_reached_77 rfl ?_
          refine j_callV C (met_X0_left l D h q dZ dB cap clo use len set par que (j / 2) (nI (se (j / 2))) (by omega)) q123 q125 qs5 q15 q126 ds_X0_left ⟨rfl, rfl⟩ ⟨Nat.le_of_ble_eq_true rfl, Nat.le_of_ble_eq_true rfl⟩ rfl (rest := []) rfl rfl rfl rfl (Nat.le_of_ble_eq_true rfl) ⟨Nat.zero_le _, Nat.zero_le _⟩ dX0_reached_79 rfl (st' := [.int (g_left cap clo use (j / 2) (nI (se (j / 2))))]) rfl ?_
          refine j_istore C [(9, .int (g_left cap clo use (j / 2) (nI (se (j / 2))))), (8, .int (nI (se (j / 2)))), (7, .int (nI (fe (j / 2)))), (6, .int (nI (j / 2))), (0, .ref h), (2, .int on), (4, .int (nI i)), (3, .int acc), (5, .int (nI j))] (by decide) rfl dX0_reached_82 rfl ?_
          refine j_iload_n C 7 rfl rfl dX0_reached_84 rfl ?_
          refine j_iload C 2 rfl dX0_reached_85 rfl ?_
          refine j_ishr C dX0_reached_87 rfl ?_
          refine j_iconst C 1 dX0_reached_88 (by decide) rfl ?_
          refine j_iand C dX0_reached_89 rfl ?_
          refine j_iconst C 1 dX0_reached_90 (by decide) rfl ?_
          refine j_icmp_ne C 106 dX0_reached_91 (by decide) rfl (fun c_12 => ?_) (fun c_12 => ?_)
          · refine j_iinc C [(5, .int (nI (j + 1))), (9, .int (g_left cap clo use (j / 2) (nI (se (j / 2))))), (8, .int (nI (se (j / 2)))), (7, .int (nI (fe (j / 2)))), (6, .int (nI (j / 2))), (0, .ref h), (2, .int on), (4, .int (nI i)), (3, .int acc)] 8 rfl (nI_1 _) (by decide) rfl dX0_reached_106 rfl ?_
            refine j_goto C 15 dX0_reached_109 (by decide) ?_
            refine j_lv [5, 6, 7, 8, 0] (lv' := [(0, .ref h), (2, .int on), (4, .int (nI i)), (3, .int acc), (5, .int (nI (j + 1)))]) rfl ?_
            exact K acc (by show _ = g_reached_b_s cap clo use on j acc; unfold g_reached_b_s; rw [if_pos c_5]; rw [if_pos c_11]; rw [if_neg c_12])
          · refine j_iload C 0 rfl dX0_reached_94 rfl ?_
            refine j_if_le C 106 dX0_reached_96 (by decide) rfl (fun c_13 => ?_) (fun c_13 => ?_)
            · refine j_iinc C [(5, .int (nI (j + 1))), (9, .int (g_left cap clo use (j / 2) (nI (se (j / 2))))), (8, .int (nI (se (j / 2)))), (7, .int (nI (fe (j / 2)))), (6, .int (nI (j / 2))), (0, .ref h), (2, .int on), (4, .int (nI i)), (3, .int acc)] 8 rfl (nI_1 _) (by decide) rfl dX0_reached_106 rfl ?_
              refine j_goto C 15 dX0_reached_109 (by decide) ?_
              refine j_lv [5, 6, 7, 8, 0] (lv' := [(0, .ref h), (2, .int on), (4, .int (nI i)), (3, .int acc), (5, .int (nI (j + 1)))]) rfl ?_
              exact K acc (by show _ = g_reached_b_s cap clo use on j acc; unfold g_reached_b_s; rw [if_pos c_5]; rw [if_pos c_11]; rw [if_pos c_12]; rw [if_pos c_13])
            · refine j_iload_n C 7 rfl rfl dX0_reached_99 rfl ?_
              refine j_iconst C 1 dX0_reached_100 (by decide) rfl ?_
              refine j_iload C 1 rfl dX0_reached_101 rfl ?_
              refine j_ishl C dX0_reached_103 rfl ?_
              refine j_ior C dX0_reached_104 rfl ?_
              refine j_istore_n C [(3, .int (acc ||| (1 <<< ((nI (se (j / 2))) &&& 31)))), (9, .int (g_left cap clo use (j / 2) (nI (se (j / 2))))), (8, .int (nI (se (j / 2)))), (7, .int (nI (fe (j / 2)))), (6, .int (nI (j / 2))), (0, .ref h), (2, .int on), (4, .int (nI i)), (5, .int (nI j))] rfl (by decide) rfl dX0_reached_105 rfl ?_
              refine j_iinc C [(5, .int (nI (j + 1))), (3, .int (acc ||| (1 <<< ((nI (se (j / 2))) &&& 31)))), (9, .int (g_left cap clo use (j / 2) (nI (se (j / 2))))), (8, .int (nI (se (j / 2)))), (7, .int (nI (fe (j / 2)))), (6, .int (nI (j / 2))), (0, .ref h), (2, .int on), (4, .int (nI i))] 8 rfl (nI_1 _) (by decide) rfl dX0_reached_106 rfl ?_
              refine j_goto C 15 dX0_reached_109 (by decide) ?_
              refine j_lv [6, 7, 8, 1, 0] (lv' := [(0, .ref h), (2, .int on), (4, .int (nI i)), (3, .int (acc ||| (1 <<< ((nI (se (j / 2))) &&& 31)))), (5, .int (nI (j + 1)))]) rfl ?_
              exact K (acc ||| (1 <<< ((nI (se (j / 2))) &&& 31))) (by show _ = g_reached_b_s cap clo use on j acc; unfold g_reached_b_s; rw [if_pos c_5]; rw [if_pos c_11]; rw [if_pos c_12]; rw [if_neg c_13])
        · refine j_aload_n C 3 rfl rfl dX0_reached_63 rfl ?_
          refine j_iload C 2 rfl dX0_reached_64 rfl ?_
          refine j_iload C 1 rfl dX0_reached_66 rfl ?_
          refine j_callV C (met_X0_left l D h q dZ dB cap clo use len set par que (j / 2) (nI (fe (j / 2))) (by omega)) q123 q125 qs5 q15 q126 ds_X0_left ⟨rfl, rfl⟩ ⟨Nat.le_of_ble_eq_true rfl, Nat.le_of_ble_eq_true rfl⟩ rfl (rest := []) rfl rfl rfl rfl (Nat.le_of_ble_eq_true rfl) ⟨Nat.zero_le _, Nat.zero_le _⟩ dX0_reached_68 rfl (st' := [.int (g_left cap clo use (j / 2) (nI (fe (j / 2))))]) rfl ?_
          refine j_goto C 82 dX0_reached_71 (by decide) ?_
          refine j_istore C [(9, .int (g_left cap clo use (j / 2) (nI (fe (j / 2))))), (8, .int (nI (se (j / 2)))), (7, .int (nI (fe (j / 2)))), (6, .int (nI (j / 2))), (0, .ref h), (2, .int on), (4, .int (nI i)), (3, .int acc), (5, .int (nI j))] (by decide) rfl dX0_reached_82 rfl ?_
          refine j_iload_n C 7 rfl rfl dX0_reached_84 rfl ?_
          refine j_iload C 2 rfl dX0_reached_85 rfl ?_
          refine j_ishr C dX0_reached_87 rfl ?_
          refine j_iconst C 1 dX0_reached_88 (by decide) rfl ?_
          refine j_iand C dX0_reached_89 rfl ?_
          refine j_iconst C 1 dX0_reached_90 (by decide) rfl ?_
          refine j_icmp_ne C 106 dX0_reached_91 (by decide) rfl (fun c_14 => ?_) (fun c_14 => ?_)
          · refine j_iinc C [(5, .int (nI (j + 1))), (9, .int (g_left cap clo use (j / 2) (nI (fe (j / 2))))), (8, .int (nI (se (j / 2)))), (7, .int (nI (fe (j / 2)))), (6, .int (nI (j / 2))), (0, .ref h), (2, .int on), (4, .int (nI i)), (3, .int acc)] 8 rfl (nI_1 _) (by decide) rfl dX0_reached_106 rfl ?_
            refine j_goto C 15 dX0_reached_109 (by decide) ?_
            refine j_lv [5, 6, 7, 8, 0] (lv' := [(0, .ref h), (2, .int on), (4, .int (nI i)), (3, .int acc), (5, .int (nI (j + 1)))]) rfl ?_
            exact K acc (by show _ = g_reached_b_s cap clo use on j acc; unfold g_reached_b_s; rw [if_pos c_5]; rw [if_neg c_11]; rw [if_neg c_14])
          · refine j_iload C 0 rfl dX0_reached_94 rfl ?_
            refine j_if_le C 106 dX0_reached_96 (by decide) rfl (fun c_15 => ?_) (fun c_15 => ?_)
            · refine j_iinc C [(5, .int (nI (j + 1))), (9, .int (g_left cap clo use (j / 2) (nI (fe (j / 2))))), (8, .int (nI (se (j / 2)))), (7, .int (nI (fe (j / 2)))), (6, .int (nI (j / 2))), (0, .ref h), (2, .int on), (4, .int (nI i)), (3, .int acc)] 8 rfl (nI_1 _) (by decide) rfl dX0_reached_106 rfl ?_
              refine j_goto C 15 dX0_reached_109 (by decide) ?_
              refine j_lv [5, 6, 7, 8, 0] (lv' := [(0, .ref h), (2, .int on), (4, .int (nI i)), (3, .int acc), (5, .int (nI (j + 1)))]) rfl ?_
              exact K acc (by show _ = g_reached_b_s cap clo use on j acc; unfold g_reached_b_s; rw [if_pos c_5]; rw [if_neg c_11]; rw [if_pos c_14]; rw [if_pos c_15])
            · refine j_iload_n C 7 rfl rfl dX0_reached_99 rfl ?_
              refine j_iconst C 1 dX0_reached_100 (by decide) rfl ?_
              refine j_iload C 1 rfl dX0_reached_101 rfl ?_
              refine j_ishl C dX0_reached_103 rfl ?_
              refine j_ior C dX0_reached_104 rfl ?_
              refine j_istore_n C [(3, .int (acc ||| (1 <<< ((nI (se (j / 2))) &&& 31)))), (9, .int (g_left cap clo use (j / 2) (nI (fe (j / 2))))), (8, .int (nI (se (j / 2)))), (7, .int (nI (fe (j / 2)))), (6, .int (nI (j / 2))), (0, .ref h), (2, .int on), (4, .int (nI i)), (5, .int (nI j))] rfl (by decide) rfl dX0_reached_105 rfl ?_
              refine j_iinc C [(5, .int (nI (j + 1))), (3, .int (acc ||| (1 <<< ((nI (se (j / 2))) &&& 31)))), (9, .int (g_left cap clo use (j / 2) (nI (fe (j / 2))))), (8, .int (nI (se (j / 2)))), (7, .int (nI (fe (j / 2)))), (6, .int (nI (j / 2))), (0, .ref h), (2, .int on), (4, .int (nI i))] 8 rfl (nI_1 _) (by decide) rfl dX0_reached_106 rfl ?_
              refine j_goto C 15 dX0_reached_109 (by decide) ?_
              refine j_lv [6, 7, 8, 1, 0] (lv' := [(0, .ref h), (2, .int on), (4, .int (nI i)), (3, .int (acc ||| (1 <<< ((nI (se (j / 2))) &&& 31)))), (5, .int (nI (j + 1)))]) rfl ?_
              exact K (acc ||| (1 <<< ((nI (se (j / 2))) &&& 31))) (by show _ = g_reached_b_s cap clo use on j acc; unfold g_reached_b_s; rw [if_pos c_5]; rw [if_neg c_11]; rw [if_pos c_14]; rw [if_neg c_15])
    show J p l e (rmk 2 43) s m args below meth c D A 10 0 0 Q (gW h q dZ dB cap clo use len set par que) 112 [(0, .ref h), (2, .int on), (4, .int (nI i)), (3, .int (g_reached_b_l cap clo use on acc))] []
    refine j_iinc C [(4, .int (nI (i + 1))), (0, .ref h), (2, .int on), (3, .int (g_reached_b_l cap clo use on acc))] 2 rfl (nI_1 _) (by decide) rfl dX0_reached_112 rfl ?_
    refine j_goto C 5 dX0_reached_115 (by decide) ?_
    refine j_lv [1, 2, 3, 0] (lv' := [(0, .ref h), (2, .int on), (3, .int (g_reached_b_l cap clo use on acc)), (4, .int (nI (i + 1)))]) rfl ?_
    exact K (g_reached_b_l cap clo use on acc) (rfl)
  show J p l e (rmk 2 43) s m args below meth c D A 10 0 0 Q (gW h q dZ dB cap clo use len set par que) 118 [(0, .ref h), (2, .int on), (3, .int (g_reached_a_l cap clo use on start))] []
  refine j_iload_n C 2 rfl rfl dX0_reached_118 rfl ?_
  have T := T _ [(0, .ref h), (2, .int on), (3, .int (g_reached_a_l cap clo use on start))] dX0_reached_119
  rw [show g_reached cap clo use start on = g_reached_a_l cap clo use on start from rfl] at T
  exact T
def g_way_a_s  (i : Nat) (use : Nat → Int32) : (Nat → Int32) := upd use i 0
def g_way_a_l  (use : Nat → Int32) : (Nat → Int32) := lpF (fun i z => g_way_a_s  i z) 17 0 use
def g_way (cap : Nat → Int32) (clo : Nat → Int32) (use : Nat → Int32) (a : Int32) (b : Int32) : Int32 × (Nat → Int32) := (if (g_isCrossing a) = 0 then ((-1), use) else (if (g_isCrossing b) = 0 then ((-1), use) else (((g_reached cap clo (g_way_a_l use) (1 <<< (a &&& 31)) 1) >>> (b &&& 31)) &&& 1, g_way_a_l use)))
theorem ds_X0_way : dsc yX0_way 2 := by unfold dsc; decide +kernel
set_option maxHeartbeats 4000000 in
theorem met_X0_way (l : Launch) (D : va_G) (h : Nat) (q : Nat → Nat) (dZ dB : ClassId) (cap clo use len set par que : Nat → Int32) (a : Int32) (b : Int32) : Ctd l yX0_way cX0_way 4 (some .int) (rmk 3 72) [.ref h, .int a, .int b] D (tyZ dZ dB) (gW h q dZ dB cap clo use len set par que) (some (.int ((g_way cap clo use a b).1))) (gW h q dZ dB cap clo ((g_way cap clo use a b).2) len set par que) := by
  refine Ctd.ofJi (by decide) (Nat.le_of_ble_eq_true rfl) ?_
  intro p e s m args below meth c A Q C T
  show J p l e (rmk 3 72) s m args below meth c D A 4 0 0 Q (gW h q dZ dB cap clo use len set par que) 0 [(0, .ref h), (1, .int a), (2, .int b)] []
  refine j_iload_n C 1 rfl rfl dX0_way_0 rfl ?_
  refine j_callS C (met_X0_isCrossing l D (tyZ dZ dB) a) q72 q73 q15 q74 ds_X0_isCrossing ⟨rfl, rfl⟩ ⟨Nat.le_of_ble_eq_true rfl, Nat.le_of_ble_eq_true rfl⟩ rfl (rest := []) rfl (Nat.le_of_ble_eq_true rfl) ⟨Nat.zero_le _, Nat.zero_le _⟩ dX0_way_1 rfl (st' := [.int (g_isCrossing a)]) rfl ?_
  refine j_if_eq C 14 dX0_way_4 (by decide) rfl (fun c_1 => ?_) (fun c_1 => ?_)
  · refine j_iconst C (-1) dX0_way_14 (by decide) rfl ?_
    have T := T _ [(0, .ref h), (1, .int a), (2, .int b)] dX0_way_15
    rw [show g_way cap clo use a b = ((-1), use) from by unfold g_way; rw [if_pos c_1]] at T
    exact T
  · refine j_iload_n C 2 rfl rfl dX0_way_7 rfl ?_
    refine j_callS C (met_X0_isCrossing l D (tyZ dZ dB) b) q72 q73 q15 q74 ds_X0_isCrossing ⟨rfl, rfl⟩ ⟨Nat.le_of_ble_eq_true rfl, Nat.le_of_ble_eq_true rfl⟩ rfl (rest := []) rfl (Nat.le_of_ble_eq_true rfl) ⟨Nat.zero_le _, Nat.zero_le _⟩ dX0_way_8 rfl (st' := [.int (g_isCrossing b)]) rfl ?_
    refine j_if_ne C 16 dX0_way_11 (by decide) rfl (fun c_2 => ?_) (fun c_2 => ?_)
    · refine j_iconst C 0 dX0_way_16 (by decide) rfl ?_
      refine j_istore_n C [(3, .int 0), (0, .ref h), (1, .int a), (2, .int b)] rfl (by decide) rfl dX0_way_17 rfl ?_
      refine j_lv [1, 2, 3, 0] (lv' := [(0, .ref h), (1, .int a), (2, .int b), (3, .int 0)]) rfl ?_
      refine lpF_rule0 (σ := (Nat → Int32)) (fun i z => g_way_a_s i z) 17 (fun i z => J p l e (rmk 3 72) s m args below meth c D A 4 0 0 Q (gW h q dZ dB cap clo z len set par que) 18 [(0, .ref h), (1, .int a), (2, .int b), (3, .int (nI i))] []) (fun z => J p l e (rmk 3 72) s m args below meth c D A 4 0 0 Q (gW h q dZ dB cap clo z len set par que) 37 [(0, .ref h), (1, .int a), (2, .int b)] []) ?_ ?_ use ?_
      · rintro use E
        show J p l e (rmk 3 72) s m args below meth c D A 4 0 0 Q (gW h q dZ dB cap clo use len set par que) 18 [(0, .ref h), (1, .int a), (2, .int b), (3, .int (nI 17))] []
        refine j_iload_n C 3 rfl rfl dX0_way_18 rfl ?_
        refine j_bipush C 17 dX0_way_19 (by decide) rfl ?_
        refine j_icmp_ge C 37 dX0_way_21 (by decide) rfl (fun _ => ?_) (fun c_3 => absurd (nI_le (a := 17) (b := 17) (by decide) (by decide)) c_3)
        exact j_lv [0, 1, 2] rfl E
      · rintro i use hi K
        show J p l e (rmk 3 72) s m args below meth c D A 4 0 0 Q (gW h q dZ dB cap clo use len set par que) 18 [(0, .ref h), (1, .int a), (2, .int b), (3, .int (nI i))] []
        refine j_iload_n C 3 rfl rfl dX0_way_18 rfl ?_
        refine j_bipush C 17 dX0_way_19 (by decide) rfl ?_
        refine j_icmp_ge C 37 dX0_way_21 (by decide) rfl (fun c_4 => absurd c_4 (nI_ge (a := i) (b := 17) hi (by decide))) (fun _ => ?_)
        refine j_aload_n C 0 rfl rfl dX0_way_24 rfl ?_
        refine j_get0 C 2 rfl (by decide) q27 rfl rfl dX0_way_25 rfl ?_
        refine j_iload_n C 3 rfl rfl dX0_way_28 rfl ?_
        refine j_iconst C 0 dX0_way_29 (by decide) rfl ?_
        refine j_iast (k := i) C 3 (gW h q dZ dB cap clo (upd use i 0) len set par que) rfl rfl hi (by decide) rfl dX0_way_30 rfl ?_
        refine j_iinc C [(3, .int (nI (i + 1))), (0, .ref h), (1, .int a), (2, .int b)] 3 rfl (nI_1 _) (by decide) rfl dX0_way_31 rfl ?_
        refine j_goto C 18 dX0_way_34 (by decide) ?_
        refine j_lv [1, 2, 3, 0] (lv' := [(0, .ref h), (1, .int a), (2, .int b), (3, .int (nI (i + 1)))]) rfl ?_
        exact K (upd use i 0) (rfl)
      show J p l e (rmk 3 72) s m args below meth c D A 4 0 0 Q (gW h q dZ dB cap clo (g_way_a_l use) len set par que) 37 [(0, .ref h), (1, .int a), (2, .int b)] []
      refine j_aload_n C 0 rfl rfl dX0_way_37 rfl ?_
      refine j_iconst C 1 dX0_way_38 (by decide) rfl ?_
      refine j_iload_n C 1 rfl rfl dX0_way_39 rfl ?_
      refine j_ishl C dX0_way_40 rfl ?_
      refine j_iconst C 1 dX0_way_41 (by decide) rfl ?_
      refine j_callV C (met_X0_reached l D h q dZ dB cap clo (g_way_a_l use) len set par que (1 <<< (a &&& 31)) 1) q131 q133 qs7 q15 q134 ds_X0_reached ⟨rfl, rfl⟩ ⟨Nat.le_of_ble_eq_true rfl, Nat.le_of_ble_eq_true rfl⟩ rfl (rest := []) rfl rfl rfl rfl (Nat.le_of_ble_eq_true rfl) ⟨Nat.zero_le _, Nat.zero_le _⟩ dX0_way_42 rfl (st' := [.int (g_reached cap clo (g_way_a_l use) (1 <<< (a &&& 31)) 1)]) rfl ?_
      refine j_istore_n C [(3, .int (g_reached cap clo (g_way_a_l use) (1 <<< (a &&& 31)) 1)), (0, .ref h), (1, .int a), (2, .int b)] rfl (by decide) rfl dX0_way_45 rfl ?_
      refine j_iload_n C 0 rfl rfl dX0_way_46 rfl ?_
      refine j_iload_n C 3 rfl rfl dX0_way_47 rfl ?_
      refine j_ishr C dX0_way_48 rfl ?_
      refine j_iconst C 1 dX0_way_49 (by decide) rfl ?_
      refine j_iand C dX0_way_50 rfl ?_
      have T := T _ [(3, .int (g_reached cap clo (g_way_a_l use) (1 <<< (a &&& 31)) 1)), (0, .ref h), (1, .int a), (2, .int b)] dX0_way_51
      rw [show g_way cap clo use a b = (((g_reached cap clo (g_way_a_l use) (1 <<< (a &&& 31)) 1) >>> (b &&& 31)) &&& 1, g_way_a_l use) from by unfold g_way; rw [if_neg c_1]; rw [if_neg c_2]] at T
      exact T
    · refine j_iconst C (-1) dX0_way_14 (by decide) rfl ?_
      have T := T _ [(0, .ref h), (1, .int a), (2, .int b)] dX0_way_15
      rw [show g_way cap clo use a b = ((-1), use) from by unfold g_way; rw [if_neg c_1]; rw [if_pos c_2]] at T
      exact T
end
section
set_option maxRecDepth 100000
def g_shortest_a_s  (i : Nat) (len : Nat → Int32) (set : Nat → Int32) : (Nat → Int32) × (Nat → Int32) := (upd len i 100000, upd set i 0)
def g_shortest_a_l  (len : Nat → Int32) (set : Nat → Int32) : (Nat → Int32) × (Nat → Int32) := lpF (fun i z => g_shortest_a_s  i z.1 z.2) 8 0 (len, set)
def g_shortest_c_s (len : Nat → Int32) (set : Nat → Int32) (j : Nat) (near : Int32) : Int32 := (if (set j) = 0 then (if near = (-1) then nI j else (if (len near.toNatClampNeg) ≤ (len j) then near else nI j)) else near)
def g_shortest_c_l (len : Nat → Int32) (set : Nat → Int32) (near : Int32) : Int32 := lpF (fun j z => g_shortest_c_s len set j z) 8 0 near
def g_shortest_d_s (cap : Nat → Int32) (clo : Nat → Int32) (near : Nat) (j : Nat) (ln : Nat → Int32) : (Nat → Int32) := g_relax ln near (fp j) (sp j) (g_room cap clo j)
def g_shortest_d_l (cap : Nat → Int32) (clo : Nat → Int32) (near : Nat) (ln : Nat → Int32) : (Nat → Int32) := lpF (fun j z => g_shortest_d_s cap clo near j z) 17 0 ln
def g_shortest_b_s (cap : Nat → Int32) (clo : Nat → Int32) (i : Nat) (len : Nat → Int32) (set : Nat → Int32) : Bool × ((Nat → Int32) × (Nat → Int32)) := (if (nI ((g_shortest_c_l len set (-1)).toNatClampNeg)) = 7 then (false, (len, upd set ((g_shortest_c_l len set (-1)).toNatClampNeg) 1)) else (true, (g_shortest_d_l cap clo ((g_shortest_c_l len set (-1)).toNatClampNeg) len, upd set ((g_shortest_c_l len set (-1)).toNatClampNeg) 1)))
def g_shortest_b_l (cap : Nat → Int32) (clo : Nat → Int32) (len : Nat → Int32) (set : Nat → Int32) : (Nat → Int32) × (Nat → Int32) := lpB (fun i z => g_shortest_b_s cap clo i z.1 z.2) 8 0 (len, set)
def g_shortest (cap : Nat → Int32) (clo : Nat → Int32) (len : Nat → Int32) (set : Nat → Int32) : Int32 × (Nat → Int32) × (Nat → Int32) := (((g_shortest_b_l cap clo (upd ((g_shortest_a_l len set).1) 6 0) ((g_shortest_a_l len set).2)).1) 7, (g_shortest_b_l cap clo (upd ((g_shortest_a_l len set).1) 6 0) ((g_shortest_a_l len set).2)).1, (g_shortest_b_l cap clo (upd ((g_shortest_a_l len set).1) 6 0) ((g_shortest_a_l len set).2)).2)
def NI (len set : Nat → Int32) (j : Nat) (near : Int32) : Prop := (near = (-1) ∧ ∀ p, p < j → ¬ set p = 0) ∨ ∃ c, c < j ∧ near = nI c ∧ set c = 0 ∧ ∀ p, p < j → set p = 0 → len c ≤ len p
theorem nI_ne1 : ∀ c, c < 17 → ¬ nI c = (-1) := by decide
theorem NI_0 {len set : Nat → Int32} : NI len set 0 (-1) := Or.inl ⟨rfl, fun p hp => absurd hp (Nat.not_lt_zero p)⟩
theorem NI_step {len set : Nat → Int32} {j : Nat} {near : Int32} (hj : j < 8) (h : NI len set j near) : NI len set (j + 1) (g_shortest_c_s len set j near) := by
  unfold g_shortest_c_s
  by_cases h1 : set j = 0
  · rw [if_pos h1]
    rcases h with ⟨hn, ha⟩ | ⟨c, hc, hn, hs, ha⟩
    · rw [if_pos hn]
      refine Or.inr ⟨j, by omega, rfl, h1, fun p hp hp0 => ?_⟩
      rcases Nat.lt_or_ge p j with h | h
      · exact absurd hp0 (ha p h)
      · rw [show p = j by omega]; exact Int32.le_refl _
    · subst hn
      rw [if_neg (nI_ne1 c (by omega)), nI_clamp (by omega)]
      by_cases h2 : len c ≤ len j
      · rw [if_pos h2]
        refine Or.inr ⟨c, by omega, rfl, hs, fun p hp hp0 => ?_⟩
        rcases Nat.lt_or_ge p j with h | h
        · exact ha p h hp0
        · rw [show p = j by omega]; exact h2
      · rw [if_neg h2]
        refine Or.inr ⟨j, by omega, rfl, h1, fun p hp hp0 => ?_⟩
        rcases Nat.lt_or_ge p j with h | h
        · exact Int32.le_trans (Int32.le_of_lt (Int32.not_le.mp h2)) (ha p h hp0)
        · rw [show p = j by omega]; exact Int32.le_refl _
  · rw [if_neg h1]
    rcases h with ⟨hn, ha⟩ | ⟨c, hc, hn, hs, ha⟩
    · refine Or.inl ⟨hn, fun p hp => ?_⟩
      rcases Nat.lt_or_ge p j with h | h
      · exact ha p h
      · rw [show p = j by omega]; exact h1
    · refine Or.inr ⟨c, by omega, hn, hs, fun p hp hp0 => ?_⟩
      rcases Nat.lt_or_ge p j with h | h
      · exact ha p h hp0
      · rw [show p = j by omega] at hp0; exact absurd hp0 h1
theorem NI_in {len set : Nat → Int32} {j : Nat} {near : Int32} (hj : j < 8) (h : NI len set j near) (hn : ¬ near = (-1)) : near = nI near.toNatClampNeg ∧ near.toNatClampNeg < 8 := by
  rcases h with ⟨h, -⟩ | ⟨c, hc, rfl, -, -⟩
  · exact absurd h hn
  · rw [nI_clamp (by omega)]; exact ⟨rfl, by omega⟩
def cn8 (set : Nat → Int32) : Nat → Nat
  | 0 => 0
  | n + 1 => cn8 set n + if set n = 0 then 0 else 1
theorem cn8_lt {set : Nat → Int32} : ∀ n, cn8 set n < n → ∃ p, p < n ∧ set p = 0
  | 0, h => absurd h (Nat.not_lt_zero _)
  | n + 1, h => by
    unfold cn8 at h
    by_cases h0 : set n = 0
    · exact ⟨n, by omega, h0⟩
    · rw [if_neg h0] at h
      obtain ⟨p, hp, h1⟩ := cn8_lt (set := set) n (by omega)
      exact ⟨p, by omega, h1⟩
theorem cn8_out {set : Nat → Int32} {c : Nat} {x : Int32} : ∀ n, n ≤ c → cn8 (upd set c x) n = cn8 set n
  | 0, _ => rfl
  | n + 1, h => by
    unfold cn8
    rw [cn8_out n (by omega), upd_n _ _ (by omega)]
theorem cn8_upd {set : Nat → Int32} {c : Nat} (h0 : set c = 0) : ∀ n, c < n → cn8 (upd set c 1) n = cn8 set n + 1
  | 0, h => absurd h (Nat.not_lt_zero _)
  | n + 1, h => by
    unfold cn8
    rcases Nat.lt_or_ge c n with h1 | h1
    · rw [cn8_upd h0 n h1, upd_n _ _ (by omega)]; omega
    · have : c = n := by omega
      subst this
      rw [cn8_out c (Nat.le_refl c), upd_s, if_neg (by decide), if_pos h0]
theorem cn8_zero {set : Nat → Int32} : ∀ n, (∀ p, p < n → set p = 0) → cn8 set n = 0
  | 0, _ => rfl
  | n + 1, h => by
    unfold cn8
    rw [cn8_zero n (fun p hp => h p (by omega)), if_pos (h n (by omega))]
theorem NI_end {len set : Nat → Int32} {near : Int32} (h : NI len set 8 near) (hc : cn8 set 8 < 8) : ∃ c, c < 8 ∧ near = nI c ∧ set c = 0 ∧ ∀ p, p < 8 → set p = 0 → len c ≤ len p := by
  rcases h with ⟨-, h⟩ | h
  · obtain ⟨p, hp, h0⟩ := cn8_lt 8 hc
    exact absurd h0 (h p hp)
  · exact h
theorem near_NI (len set : Nat → Int32) : NI len set 8 (g_shortest_c_l len set (-1)) := lpF_inv _ (fun j z => NI len set j z) 8 (fun _ _ hj h => NI_step hj h) 8 0 (-1) rfl NI_0
theorem near_in {len set : Nat → Int32} (hc : cn8 set 8 < 8) : g_shortest_c_l len set (-1) = nI (g_shortest_c_l len set (-1)).toNatClampNeg ∧ (g_shortest_c_l len set (-1)).toNatClampNeg < 8 := by
  obtain ⟨c, hc, e, -⟩ := NI_end (near_NI len set) hc
  rw [e, nI_clamp (by omega)]
  exact ⟨rfl, hc⟩
theorem near_0 {len set : Nat → Int32} (hc : cn8 set 8 < 8) : set (g_shortest_c_l len set (-1)).toNatClampNeg = 0 := by
  obtain ⟨c, hc, e, h0, -⟩ := NI_end (near_NI len set) hc
  rw [e, nI_clamp (by omega)]
  exact h0
theorem turn_inv {cap clo : Nat → Int32} {i : Nat} {z z2 : (Nat → Int32) × (Nat → Int32)} (hi : i < 8) (h : cn8 z.2 8 = i) (e : (true, z2) = g_shortest_b_s cap clo i z.1 z.2) : cn8 z2.2 8 = i + 1 := by
  unfold g_shortest_b_s at e
  split at e
  · cases e
  · cases e
    show cn8 (upd z.2 _ 1) 8 = i + 1
    rw [cn8_upd (near_0 (by omega)) 8 (near_in (by omega)).2, h]
theorem turn_0 (len set : Nat → Int32) : ∀ p, p < 8 → (g_shortest_a_l len set).1 p = 100000 ∧ (g_shortest_a_l len set).2 p = 0 := by
  refine lpF_inv (fun i z => g_shortest_a_s i z.1 z.2) (fun i z => ∀ p, p < i → z.1 p = 100000 ∧ z.2 p = 0) 8 (fun i z hi h p hp => ?_) 8 0 (len, set) rfl (fun p hp => absurd hp (Nat.not_lt_zero p))
  show upd z.1 i 100000 p = 100000 ∧ upd z.2 i 0 p = 0
  by_cases h1 : p = i
  · subst h1; rw [upd_s, upd_s]; exact ⟨rfl, rfl⟩
  · rw [upd_n _ _ h1, upd_n _ _ h1]; exact h p (by omega)
theorem ds_X0_shortest : dsc yX0_shortest 0 := by unfold dsc; decide +kernel
set_option maxHeartbeats 4000000 in
theorem met_X0_shortest (l : Launch) (D : va_G) (h : Nat) (q : Nat → Nat) (dZ dB : ClassId) (cap clo use len set par que : Nat → Int32)  : Ctd l yX0_shortest cX0_shortest 4 (some .int) (rmk 1 26) [.ref h] D (tyZ dZ dB) (gW h q dZ dB cap clo use len set par que) (some (.int ((g_shortest cap clo len set).1))) (gW h q dZ dB cap clo use ((g_shortest cap clo len set).2.1) ((g_shortest cap clo len set).2.2) par que) := by
  refine Ctd.ofJi (by decide) (Nat.le_of_ble_eq_true rfl) ?_
  intro p e s m args below meth c A Q C T
  show J p l e (rmk 1 26) s m args below meth c D A 4 0 0 Q (gW h q dZ dB cap clo use len set par que) 0 [(0, .ref h)] []
  refine j_iconst C 0 dX0_shortest_0 (by decide) rfl ?_
  refine j_istore_n C [(1, .int 0), (0, .ref h)] rfl (by decide) rfl dX0_shortest_1 rfl ?_
  refine j_lv [1, 0] (lv' := [(0, .ref h), (1, .int 0)]) rfl ?_
  refine lpF_rule0 (σ := (Nat → Int32) × (Nat → Int32)) (fun i z => g_shortest_a_s i z.1 z.2) 8 (fun i z => J p l e (rmk 1 26) s m args below meth c D A 4 0 0 Q (gW h q dZ dB cap clo use z.1 z.2 par que) 2 [(0, .ref h), (1, .int (nI i))] []) (fun z => J p l e (rmk 1 26) s m args below meth c D A 4 0 0 Q (gW h q dZ dB cap clo use z.1 z.2 par que) 29 [(0, .ref h)] []) ?_ ?_ (len, set) ?_
  · rintro ⟨len, set⟩ E
    show J p l e (rmk 1 26) s m args below meth c D A 4 0 0 Q (gW h q dZ dB cap clo use len set par que) 2 [(0, .ref h), (1, .int (nI 8))] []
    refine j_iload_n C 1 rfl rfl dX0_shortest_2 rfl ?_
    refine j_bipush C 8 dX0_shortest_3 (by decide) rfl ?_
    refine j_icmp_ge C 29 dX0_shortest_5 (by decide) rfl (fun _ => ?_) (fun c_1 => absurd (nI_le (a := 8) (b := 8) (by decide) (by decide)) c_1)
    exact j_lv [0] rfl E
  · rintro i ⟨len, set⟩ hi K
    show J p l e (rmk 1 26) s m args below meth c D A 4 0 0 Q (gW h q dZ dB cap clo use len set par que) 2 [(0, .ref h), (1, .int (nI i))] []
    refine j_iload_n C 1 rfl rfl dX0_shortest_2 rfl ?_
    refine j_bipush C 8 dX0_shortest_3 (by decide) rfl ?_
    refine j_icmp_ge C 29 dX0_shortest_5 (by decide) rfl (fun c_2 => absurd c_2 (nI_ge (a := i) (b := 8) hi (by decide))) (fun _ => ?_)
    refine j_aload_n C 0 rfl rfl dX0_shortest_8 rfl ?_
    refine j_get0 C 3 rfl (by decide) q28 rfl rfl dX0_shortest_9 rfl ?_
    refine j_iload_n C 1 rfl rfl dX0_shortest_12 rfl ?_
    refine j_ldc C q89 dX0_shortest_13 rfl ?_
    refine j_iast (k := i) C 4 (gW h q dZ dB cap clo use (upd len i 100000) set par que) rfl rfl hi (by decide) rfl dX0_shortest_15 rfl ?_
    refine j_aload_n C 0 rfl rfl dX0_shortest_16 rfl ?_
    refine j_get0 C 4 rfl (by decide) q29 rfl rfl dX0_shortest_17 rfl ?_
    refine j_iload_n C 1 rfl rfl dX0_shortest_20 rfl ?_
    refine j_iconst C 0 dX0_shortest_21 (by decide) rfl ?_
    refine j_zast (k := i) C 5 (gW h q dZ dB cap clo use (upd len i 100000) (upd set i 0) par que) rfl rfl hi (by decide) (by decide) rfl dX0_shortest_22 rfl ?_
    refine j_iinc C [(1, .int (nI (i + 1))), (0, .ref h)] 1 rfl (nI_1 _) (by decide) rfl dX0_shortest_23 rfl ?_
    refine j_goto C 2 dX0_shortest_26 (by decide) ?_
    refine j_lv [1, 0] (lv' := [(0, .ref h), (1, .int (nI (i + 1)))]) rfl ?_
    exact K (upd len i 100000, upd set i 0) (rfl)
  show J p l e (rmk 1 26) s m args below meth c D A 4 0 0 Q (gW h q dZ dB cap clo use ((g_shortest_a_l len set).1) ((g_shortest_a_l len set).2) par que) 29 [(0, .ref h)] []
  refine j_aload_n C 0 rfl rfl dX0_shortest_29 rfl ?_
  refine j_get0 C 3 rfl (by decide) q28 rfl rfl dX0_shortest_30 rfl ?_
  refine j_bipush C 6 dX0_shortest_33 (by decide) rfl ?_
  refine j_iconst C 0 dX0_shortest_35 (by decide) rfl ?_
  refine j_top2 (y := nI 6) rfl ?_
  refine j_iast (k := 6) C 4 (gW h q dZ dB cap clo use (upd ((g_shortest_a_l len set).1) 6 0) ((g_shortest_a_l len set).2) par que) rfl rfl (by decide) (by decide) rfl dX0_shortest_36 rfl ?_
  refine j_iconst C 0 dX0_shortest_37 (by decide) rfl ?_
  refine j_istore_n C [(1, .int 0), (0, .ref h)] rfl (by decide) rfl dX0_shortest_38 rfl ?_
  refine j_lv [1, 0] (lv' := [(0, .ref h), (1, .int 0)]) rfl ?_
  refine lpB_rule (σ := (Nat → Int32) × (Nat → Int32)) (fun i z => g_shortest_b_s cap clo i z.1 z.2) 8 (fun i z => J p l e (rmk 1 26) s m args below meth c D A 4 0 0 Q (gW h q dZ dB cap clo use z.1 z.2 par que) 39 [(0, .ref h), (1, .int (nI i))] []) (fun z => J p l e (rmk 1 26) s m args below meth c D A 4 0 0 Q (gW h q dZ dB cap clo use z.1 z.2 par que) 146 [(0, .ref h)] []) (fun i z => cn8 z.2 8 = i) ?_ ?_ (fun i z z2 hi h e => turn_inv hi h e) 8 0 (upd ((g_shortest_a_l len set).1) 6 0, (g_shortest_a_l len set).2) (Nat.zero_add 8) (cn8_zero 8 (fun p hp => (turn_0 len set p hp).2)) ?_
  · rintro ⟨len, set⟩ - E
    show J p l e (rmk 1 26) s m args below meth c D A 4 0 0 Q (gW h q dZ dB cap clo use len set par que) 39 [(0, .ref h), (1, .int (nI 8))] []
    refine j_iload_n C 1 rfl rfl dX0_shortest_39 rfl ?_
    refine j_bipush C 8 dX0_shortest_40 (by decide) rfl ?_
    refine j_icmp_ge C 146 dX0_shortest_42 (by decide) rfl (fun _ => ?_) (fun c_3 => absurd (nI_le (a := 8) (b := 8) (by decide) (by decide)) c_3)
    exact j_lv [0] rfl E
  · rintro i ⟨len, set⟩ hi hI K K2
    show J p l e (rmk 1 26) s m args below meth c D A 4 0 0 Q (gW h q dZ dB cap clo use len set par que) 39 [(0, .ref h), (1, .int (nI i))] []
    refine j_iload_n C 1 rfl rfl dX0_shortest_39 rfl ?_
    refine j_bipush C 8 dX0_shortest_40 (by decide) rfl ?_
    refine j_icmp_ge C 146 dX0_shortest_42 (by decide) rfl (fun c_4 => absurd c_4 (nI_ge (a := i) (b := 8) hi (by decide))) (fun _ => ?_)
    refine j_iconst C (-1) dX0_shortest_45 (by decide) rfl ?_
    refine j_istore_n C [(2, .int (-1)), (0, .ref h), (1, .int (nI i))] rfl (by decide) rfl dX0_shortest_46 rfl ?_
    refine j_iconst C 0 dX0_shortest_47 (by decide) rfl ?_
    refine j_istore_n C [(3, .int 0), (2, .int (-1)), (0, .ref h), (1, .int (nI i))] rfl (by decide) rfl dX0_shortest_48 rfl ?_
    refine j_lv [2, 3, 1, 0] (lv' := [(0, .ref h), (1, .int (nI i)), (2, .int (-1)), (3, .int 0)]) rfl ?_
    refine lpF_rule (σ := Int32) (fun j z => g_shortest_c_s len set j z) 8 (fun j z => J p l e (rmk 1 26) s m args below meth c D A 4 0 0 Q (gW h q dZ dB cap clo use len set par que) 49 [(0, .ref h), (1, .int (nI i)), (2, .int z), (3, .int (nI j))] []) (fun z => J p l e (rmk 1 26) s m args below meth c D A 4 0 0 Q (gW h q dZ dB cap clo use len set par que) 92 [(0, .ref h), (1, .int (nI i)), (2, .int z)] []) (fun j z => NI len set j z) ?_ ?_ (fun j z hj h => NI_step hj h) 8 0 (-1) (Nat.zero_add 8) NI_0 ?_
    · rintro near - E
      show J p l e (rmk 1 26) s m args below meth c D A 4 0 0 Q (gW h q dZ dB cap clo use len set par que) 49 [(0, .ref h), (1, .int (nI i)), (2, .int near), (3, .int (nI 8))] []
      refine j_iload_n C 3 rfl rfl dX0_shortest_49 rfl ?_
      refine j_bipush C 8 dX0_shortest_50 (by decide) rfl ?_
      refine j_icmp_ge C 92 dX0_shortest_52 (by decide) rfl (fun _ => ?_) (fun c_5 => absurd (nI_le (a := 8) (b := 8) (by decide) (by decide)) c_5)
      exact j_lv [0, 1, 2] rfl E
    · rintro j near hj hI K
      show J p l e (rmk 1 26) s m args below meth c D A 4 0 0 Q (gW h q dZ dB cap clo use len set par que) 49 [(0, .ref h), (1, .int (nI i)), (2, .int near), (3, .int (nI j))] []
      refine j_iload_n C 3 rfl rfl dX0_shortest_49 rfl ?_
      refine j_bipush C 8 dX0_shortest_50 (by decide) rfl ?_
      refine j_icmp_ge C 92 dX0_shortest_52 (by decide) rfl (fun c_6 => absurd c_6 (nI_ge (a := j) (b := 8) hj (by decide))) (fun _ => ?_)
      refine j_aload_n C 0 rfl rfl dX0_shortest_55 rfl ?_
      refine j_get0 C 4 rfl (by decide) q29 rfl rfl dX0_shortest_56 rfl ?_
      refine j_iload_n C 3 rfl rfl dX0_shortest_59 rfl ?_
      refine j_zald (k := j) C 5 rfl rfl hj (by decide) dX0_shortest_60 rfl ?_
      refine j_if_ne C 86 dX0_shortest_61 (by decide) rfl (fun c_7 => ?_) (fun c_7 => ?_)
      · refine j_iinc C [(3, .int (nI (j + 1))), (0, .ref h), (1, .int (nI i)), (2, .int near)] 3 rfl (nI_1 _) (by decide) rfl dX0_shortest_86 rfl ?_
        refine j_goto C 49 dX0_shortest_89 (by decide) ?_
        refine j_lv [1, 2, 3, 0] (lv' := [(0, .ref h), (1, .int (nI i)), (2, .int near), (3, .int (nI (j + 1)))]) rfl ?_
        exact K near (by show _ = g_shortest_c_s len set j near; unfold g_shortest_c_s; rw [if_neg c_7])
      · refine j_iload_n C 2 rfl rfl dX0_shortest_64 rfl ?_
        refine j_iconst C (-1) dX0_shortest_65 (by decide) rfl ?_
        refine j_icmp_eq C 84 dX0_shortest_66 (by decide) rfl (fun c_8 => ?_) (fun c_8 => ?_)
        · refine j_iload_n C 3 rfl rfl dX0_shortest_84 rfl ?_
          refine j_istore_n C [(2, .int (nI j)), (0, .ref h), (1, .int (nI i)), (3, .int (nI j))] rfl (by decide) rfl dX0_shortest_85 rfl ?_
          refine j_iinc C [(3, .int (nI (j + 1))), (2, .int (nI j)), (0, .ref h), (1, .int (nI i))] 3 rfl (nI_1 _) (by decide) rfl dX0_shortest_86 rfl ?_
          refine j_goto C 49 dX0_shortest_89 (by decide) ?_
          refine j_lv [2, 3, 1, 0] (lv' := [(0, .ref h), (1, .int (nI i)), (2, .int (nI j)), (3, .int (nI (j + 1)))]) rfl ?_
          exact K (nI j) (by show _ = g_shortest_c_s len set j near; unfold g_shortest_c_s; rw [if_pos c_7]; rw [if_pos c_8])
        · have hn2 := NI_in hj hI c_8
          refine j_lve (lv' := [(0, .ref h), (1, .int (nI i)), (2, .int (nI near.toNatClampNeg)), (3, .int (nI j))]) (by rw [← hn2.1]) ?_
          refine j_aload_n C 0 rfl rfl dX0_shortest_69 rfl ?_
          refine j_get0 C 3 rfl (by decide) q28 rfl rfl dX0_shortest_70 rfl ?_
          refine j_iload_n C 3 rfl rfl dX0_shortest_73 rfl ?_
          refine j_iald (k := j) C 4 rfl rfl hj (by decide) dX0_shortest_74 rfl ?_
          refine j_aload_n C 0 rfl rfl dX0_shortest_75 rfl ?_
          refine j_get0 C 3 rfl (by decide) q28 rfl rfl dX0_shortest_76 rfl ?_
          refine j_iload_n C 2 rfl rfl dX0_shortest_79 rfl ?_
          refine j_iald (k := near.toNatClampNeg) C 4 rfl rfl hn2.2 (by decide) dX0_shortest_80 rfl ?_
          refine j_icmp_ge C 86 dX0_shortest_81 (by decide) rfl (fun c_9 => ?_) (fun c_9 => ?_)
          · refine j_lve (lv' := [(0, .ref h), (1, .int (nI i)), (2, .int near), (3, .int (nI j))]) (by rw [← hn2.1]) ?_
            refine j_iinc C [(3, .int (nI (j + 1))), (0, .ref h), (1, .int (nI i)), (2, .int near)] 3 rfl (nI_1 _) (by decide) rfl dX0_shortest_86 rfl ?_
            refine j_goto C 49 dX0_shortest_89 (by decide) ?_
            refine j_lv [1, 2, 3, 0] (lv' := [(0, .ref h), (1, .int (nI i)), (2, .int near), (3, .int (nI (j + 1)))]) rfl ?_
            exact K near (by show _ = g_shortest_c_s len set j near; unfold g_shortest_c_s; rw [if_pos c_7]; rw [if_neg c_8]; rw [if_pos c_9])
          · refine j_iload_n C 3 rfl rfl dX0_shortest_84 rfl ?_
            refine j_istore_n C [(2, .int (nI j)), (0, .ref h), (1, .int (nI i)), (3, .int (nI j))] rfl (by decide) rfl dX0_shortest_85 rfl ?_
            refine j_iinc C [(3, .int (nI (j + 1))), (2, .int (nI j)), (0, .ref h), (1, .int (nI i))] 3 rfl (nI_1 _) (by decide) rfl dX0_shortest_86 rfl ?_
            refine j_goto C 49 dX0_shortest_89 (by decide) ?_
            refine j_lv [2, 3, 1, 0] (lv' := [(0, .ref h), (1, .int (nI i)), (2, .int (nI j)), (3, .int (nI (j + 1)))]) rfl ?_
            exact K (nI j) (by show _ = g_shortest_c_s len set j near; unfold g_shortest_c_s; rw [if_pos c_7]; rw [if_neg c_8]; rw [if_neg c_9])
    intro hE
    show J p l e (rmk 1 26) s m args below meth c D A 4 0 0 Q (gW h q dZ dB cap clo use len set par que) 92 [(0, .ref h), (1, .int (nI i)), (2, .int (g_shortest_c_l len set (-1)))] []
    have hn1 := near_in (len := len) (set := set) (by have h9 : cn8 set 8 = i := hI; omega)
    refine j_lve (lv' := [(0, .ref h), (1, .int (nI i)), (2, .int (nI ((g_shortest_c_l len set (-1)).toNatClampNeg)))]) (by rw [← hn1.1]) ?_
    refine j_aload_n C 0 rfl rfl dX0_shortest_92 rfl ?_
    refine j_get0 C 4 rfl (by decide) q29 rfl rfl dX0_shortest_93 rfl ?_
    refine j_iload_n C 2 rfl rfl dX0_shortest_96 rfl ?_
    refine j_iconst C 1 dX0_shortest_97 (by decide) rfl ?_
    refine j_zast (k := ((g_shortest_c_l len set (-1)).toNatClampNeg)) C 5 (gW h q dZ dB cap clo use len (upd set ((g_shortest_c_l len set (-1)).toNatClampNeg) 1) par que) rfl rfl hn1.2 (by decide) (by decide) rfl dX0_shortest_98 rfl ?_
    refine j_iload_n C 2 rfl rfl dX0_shortest_99 rfl ?_
    refine j_bipush C 7 dX0_shortest_100 (by decide) rfl ?_
    refine j_icmp_ne C 108 dX0_shortest_102 (by decide) rfl (fun c_10 => ?_) (fun c_10 => ?_)
    · refine j_iconst C 0 dX0_shortest_108 (by decide) rfl ?_
      refine j_istore_n C [(3, .int 0), (0, .ref h), (1, .int (nI i)), (2, .int (nI ((g_shortest_c_l len set (-1)).toNatClampNeg)))] rfl (by decide) rfl dX0_shortest_109 rfl ?_
      refine j_lv [1, 2, 3, 0] (lv' := [(0, .ref h), (1, .int (nI i)), (2, .int (nI ((g_shortest_c_l len set (-1)).toNatClampNeg))), (3, .int 0)]) rfl ?_
      refine lpF_rule0 (σ := (Nat → Int32)) (fun j z => g_shortest_d_s cap clo ((g_shortest_c_l len set (-1)).toNatClampNeg) j z) 17 (fun j z => J p l e (rmk 1 26) s m args below meth c D A 4 0 0 Q (gW h q dZ dB cap clo use z (upd set ((g_shortest_c_l len set (-1)).toNatClampNeg) 1) par que) 110 [(0, .ref h), (1, .int (nI i)), (2, .int (nI ((g_shortest_c_l len set (-1)).toNatClampNeg))), (3, .int (nI j))] []) (fun z => J p l e (rmk 1 26) s m args below meth c D A 4 0 0 Q (gW h q dZ dB cap clo use z (upd set ((g_shortest_c_l len set (-1)).toNatClampNeg) 1) par que) 140 [(0, .ref h), (1, .int (nI i)), (2, .int (nI ((g_shortest_c_l len set (-1)).toNatClampNeg)))] []) ?_ ?_ len ?_
      · rintro ln E
        show J p l e (rmk 1 26) s m args below meth c D A 4 0 0 Q (gW h q dZ dB cap clo use ln (upd set ((g_shortest_c_l len set (-1)).toNatClampNeg) 1) par que) 110 [(0, .ref h), (1, .int (nI i)), (2, .int (nI ((g_shortest_c_l len set (-1)).toNatClampNeg))), (3, .int (nI 17))] []
        refine j_iload_n C 3 rfl rfl dX0_shortest_110 rfl ?_
        refine j_bipush C 17 dX0_shortest_111 (by decide) rfl ?_
        refine j_icmp_ge C 140 dX0_shortest_113 (by decide) rfl (fun _ => ?_) (fun c_11 => absurd (nI_le (a := 17) (b := 17) (by decide) (by decide)) c_11)
        exact j_lv [0, 1, 2] rfl E
      · rintro j ln hj K
        show J p l e (rmk 1 26) s m args below meth c D A 4 0 0 Q (gW h q dZ dB cap clo use ln (upd set ((g_shortest_c_l len set (-1)).toNatClampNeg) 1) par que) 110 [(0, .ref h), (1, .int (nI i)), (2, .int (nI ((g_shortest_c_l len set (-1)).toNatClampNeg))), (3, .int (nI j))] []
        refine j_iload_n C 3 rfl rfl dX0_shortest_110 rfl ?_
        refine j_bipush C 17 dX0_shortest_111 (by decide) rfl ?_
        refine j_icmp_ge C 140 dX0_shortest_113 (by decide) rfl (fun c_12 => absurd c_12 (nI_ge (a := j) (b := 17) hj (by decide))) (fun _ => ?_)
        refine j_aload_n C 0 rfl rfl dX0_shortest_116 rfl ?_
        refine j_iload_n C 2 rfl rfl dX0_shortest_117 rfl ?_
        refine j_iload_n C 3 rfl rfl dX0_shortest_118 rfl ?_
        refine j_callS C (met_X0_firstPlace l D (tyZ dZ dB) j hj) q90 q91 q15 q92 ds_X0_firstPlace ⟨rfl, rfl⟩ ⟨Nat.le_of_ble_eq_true rfl, Nat.le_of_ble_eq_true rfl⟩ rfl (rest := [.int (nI ((g_shortest_c_l len set (-1)).toNatClampNeg)), .ref h]) rfl (Nat.le_of_ble_eq_true rfl) ⟨Nat.zero_le _, Nat.zero_le _⟩ dX0_shortest_119 rfl (st' := [.int (nI (fp j)), .int (nI ((g_shortest_c_l len set (-1)).toNatClampNeg)), .ref h]) rfl ?_
        refine j_iload_n C 3 rfl rfl dX0_shortest_122 rfl ?_
        refine j_callS C (met_X0_secondPlace l D (tyZ dZ dB) j hj) q93 q94 q15 q95 ds_X0_secondPlace ⟨rfl, rfl⟩ ⟨Nat.le_of_ble_eq_true rfl, Nat.le_of_ble_eq_true rfl⟩ rfl (rest := [.int (nI (fp j)), .int (nI ((g_shortest_c_l len set (-1)).toNatClampNeg)), .ref h]) rfl (Nat.le_of_ble_eq_true rfl) ⟨Nat.zero_le _, Nat.zero_le _⟩ dX0_shortest_123 rfl (st' := [.int (nI (sp j)), .int (nI (fp j)), .int (nI ((g_shortest_c_l len set (-1)).toNatClampNeg)), .ref h]) rfl ?_
        refine j_aload_n C 0 rfl rfl dX0_shortest_126 rfl ?_
        refine j_iload_n C 3 rfl rfl dX0_shortest_127 rfl ?_
        refine j_callV C (met_X0_room l D h q dZ dB cap clo use ln (upd set ((g_shortest_c_l len set (-1)).toNatClampNeg) 1) par que j hj) q96 q98 qs1 q15 q99 ds_X0_room ⟨rfl, rfl⟩ ⟨Nat.le_of_ble_eq_true rfl, Nat.le_of_ble_eq_true rfl⟩ rfl (rest := [.int (nI (sp j)), .int (nI (fp j)), .int (nI ((g_shortest_c_l len set (-1)).toNatClampNeg)), .ref h]) rfl rfl rfl rfl (Nat.le_of_ble_eq_true rfl) ⟨Nat.zero_le _, Nat.zero_le _⟩ dX0_shortest_128 rfl (st' := [.int (g_room cap clo j), .int (nI (sp j)), .int (nI (fp j)), .int (nI ((g_shortest_c_l len set (-1)).toNatClampNeg)), .ref h]) rfl ?_
        refine j_callV C (met_X0_relax l D h q dZ dB cap clo use ln (upd set ((g_shortest_c_l len set (-1)).toNatClampNeg) 1) par que ((g_shortest_c_l len set (-1)).toNatClampNeg) (fp j) (sp j) (g_room cap clo j) hn1.2 (fp_lt hj) (sp_lt hj)) q100 q102 qs2 q15 q103 ds_X0_relax ⟨rfl, rfl⟩ ⟨Nat.le_of_ble_eq_true rfl, Nat.le_of_ble_eq_true rfl⟩ rfl (rest := []) rfl rfl rfl rfl (Nat.le_of_ble_eq_true rfl) ⟨Nat.zero_le _, Nat.zero_le _⟩ dX0_shortest_131 rfl (st' := []) rfl ?_
        refine j_iinc C [(3, .int (nI (j + 1))), (0, .ref h), (1, .int (nI i)), (2, .int (nI ((g_shortest_c_l len set (-1)).toNatClampNeg)))] 3 rfl (nI_1 _) (by decide) rfl dX0_shortest_134 rfl ?_
        refine j_goto C 110 dX0_shortest_137 (by decide) ?_
        refine j_lv [1, 2, 3, 0] (lv' := [(0, .ref h), (1, .int (nI i)), (2, .int (nI ((g_shortest_c_l len set (-1)).toNatClampNeg))), (3, .int (nI (j + 1)))]) rfl ?_
        exact K (g_relax ln ((g_shortest_c_l len set (-1)).toNatClampNeg) (fp j) (sp j) (g_room cap clo j)) (rfl)
      show J p l e (rmk 1 26) s m args below meth c D A 4 0 0 Q (gW h q dZ dB cap clo use (g_shortest_d_l cap clo ((g_shortest_c_l len set (-1)).toNatClampNeg) len) (upd set ((g_shortest_c_l len set (-1)).toNatClampNeg) 1) par que) 140 [(0, .ref h), (1, .int (nI i)), (2, .int (nI ((g_shortest_c_l len set (-1)).toNatClampNeg)))] []
      refine j_iinc C [(1, .int (nI (i + 1))), (0, .ref h), (2, .int (nI ((g_shortest_c_l len set (-1)).toNatClampNeg)))] 1 rfl (nI_1 _) (by decide) rfl dX0_shortest_140 rfl ?_
      refine j_goto C 39 dX0_shortest_143 (by decide) ?_
      refine j_lv [1, 0] (lv' := [(0, .ref h), (1, .int (nI (i + 1)))]) rfl ?_
      exact K (g_shortest_d_l cap clo ((g_shortest_c_l len set (-1)).toNatClampNeg) len, upd set ((g_shortest_c_l len set (-1)).toNatClampNeg) 1) (by show _ = g_shortest_b_s cap clo i len set; unfold g_shortest_b_s; rw [if_neg c_10])
    · refine j_goto C 146 dX0_shortest_105 (by decide) ?_
      refine j_lv [0] (lv' := [(0, .ref h)]) rfl ?_
      exact K2 (len, upd set ((g_shortest_c_l len set (-1)).toNatClampNeg) 1) (by show _ = g_shortest_b_s cap clo i len set; unfold g_shortest_b_s; rw [if_pos c_10])
  show J p l e (rmk 1 26) s m args below meth c D A 4 0 0 Q (gW h q dZ dB cap clo use ((g_shortest_b_l cap clo (upd ((g_shortest_a_l len set).1) 6 0) ((g_shortest_a_l len set).2)).1) ((g_shortest_b_l cap clo (upd ((g_shortest_a_l len set).1) 6 0) ((g_shortest_a_l len set).2)).2) par que) 146 [(0, .ref h)] []
  refine j_aload_n C 0 rfl rfl dX0_shortest_146 rfl ?_
  refine j_get0 C 3 rfl (by decide) q28 rfl rfl dX0_shortest_147 rfl ?_
  refine j_bipush C 7 dX0_shortest_150 (by decide) rfl ?_
  refine j_top (y := nI 7) rfl ?_
  refine j_iald (k := 7) C 4 rfl rfl (by decide) (by decide) dX0_shortest_152 rfl ?_
  have T := T _ [(0, .ref h)] dX0_shortest_153
  rw [show g_shortest cap clo len set = (((g_shortest_b_l cap clo (upd ((g_shortest_a_l len set).1) 6 0) ((g_shortest_a_l len set).2)).1) 7, (g_shortest_b_l cap clo (upd ((g_shortest_a_l len set).1) 6 0) ((g_shortest_a_l len set).2)).1, (g_shortest_b_l cap clo (upd ((g_shortest_a_l len set).1) 6 0) ((g_shortest_a_l len set).2)).2) from rfl] at T
  exact T
end
section
set_option maxRecDepth 100000
/-! what search keeps: how many crossings are unseen; ways back by the parents -/
def cU (x : Int32) : Nat → Nat
  | 0 => 0
  | n + 1 => cU x n + if bt x n = true then 0 else 1
theorem cU_pos {x : Int32} {o : Nat} (h : bt x o = false) : ∀ {n : Nat}, o < n → 1 ≤ cU x n
  | 0, h1 => absurd h1 (Nat.not_lt_zero _)
  | n + 1, h1 => by
    unfold cU
    rcases Nat.lt_or_ge o n with h2 | h2
    · have := cU_pos h h2; omega
    · have : o = n := by omega
      subst this
      rw [if_neg (by rw [h]; decide)]; omega
theorem cU_out {x : Int32} {o : Nat} (ho : o < 32) : ∀ n, n ≤ o → cU (x ||| (1 <<< (nI o &&& 31))) n = cU x n
  | 0, _ => rfl
  | n + 1, h => by
    unfold cU
    rw [cU_out ho n (by omega), bt_set x ho (by omega), decide_eq_false (show ¬ n = o by omega), Bool.or_false]
theorem cU_set {x : Int32} {o : Nat} (h : bt x o = false) (ho : o < 12) : ∀ n, n ≤ 12 → o < n → cU (x ||| (1 <<< (nI o &&& 31))) n + 1 = cU x n
  | 0, _, h1 => absurd h1 (Nat.not_lt_zero _)
  | n + 1, hn, h1 => by
    unfold cU
    rw [bt_set x (by omega) (by omega)]
    rcases Nat.lt_or_ge o n with h2 | h2
    · have := cU_set h ho n (by omega) h2
      rw [decide_eq_false (show ¬ n = o by omega), Bool.or_false]; omega
    · have : o = n := by omega
      subst this
      rw [cU_out (by omega) o (Nat.le_refl _), decide_eq_true rfl, Bool.or_true, if_pos rfl, if_neg (by rw [h]; decide)]
/-- a way of d streets back from c to a source: seen crossings V, streets with L -/
def chn (Vs : Nat → Prop) (Lr : Nat → Int32 → Prop) (src : Int32) (par : Nat → Int32) : Nat → Nat → Prop
  | 0, c => c < 12 ∧ Vs c ∧ ¬ ((src >>> (nI c &&& 31)) &&& 1) = 0
  | d + 1, c => c < 12 ∧ Vs c ∧ ((src >>> (nI c &&& 31)) &&& 1) = 0 ∧ par c = nI (par c).toNatClampNeg ∧ (par c).toNatClampNeg < 17 ∧ (¬ g_otherEnd (par c).toNatClampNeg (nI c) = (-1)) ∧ Lr (par c).toNatClampNeg (g_otherEnd (par c).toNatClampNeg (nI c)) ∧ chn Vs Lr src par d (g_otherEnd (par c).toNatClampNeg (nI c)).toNatClampNeg
theorem chn_lt {Vs : Nat → Prop} {Lr : Nat → Int32 → Prop} {src : Int32} {par : Nat → Int32} {c : Nat} (h : ∃ d, chn Vs Lr src par d c) : c < 12 := by
  obtain ⟨d, h⟩ := h
  cases d with
  | zero => exact h.1
  | succ d => exact h.1
theorem chn_in {Vs : Nat → Prop} {Lr : Nat → Int32 → Prop} {src : Int32} {par : Nat → Int32} {c : Nat} (h : ∃ d, chn Vs Lr src par d c) (h0 : ((src >>> (nI c &&& 31)) &&& 1) = 0) : par c = nI (par c).toNatClampNeg ∧ (par c).toNatClampNeg < 17 ∧ (g_otherEnd (par c).toNatClampNeg (nI c) = nI (g_otherEnd (par c).toNatClampNeg (nI c)).toNatClampNeg ∧ (g_otherEnd (par c).toNatClampNeg (nI c)).toNatClampNeg < 12) ∧ ∃ d, chn Vs Lr src par d (g_otherEnd (par c).toNatClampNeg (nI c)).toNatClampNeg := by
  obtain ⟨d, h⟩ := h
  cases d with
  | zero => exact absurd h0 h.2.2
  | succ d =>
    obtain ⟨-, -, -, h1, h2, h3, -, h4⟩ := h
    exact ⟨h1, h2, otherEnd_in h2 h3, d, h4⟩
theorem chn_upd {Vs Vs' : Nat → Prop} {Lr : Nat → Int32 → Prop} {src : Int32} {par : Nat → Int32} {o : Nat} {x : Int32} (hV : ∀ c, Vs c → c ≠ o ∧ Vs' c) : ∀ d c, chn Vs Lr src par d c → chn Vs' Lr src (upd par o x) d c
  | 0, c, h => ⟨h.1, (hV c h.2.1).2, h.2.2⟩
  | d + 1, c, h => by
    obtain ⟨h0, h1, h2, h3, h4, h5, h6, h7⟩ := h
    have hne := (hV c h1).1
    unfold chn
    rw [upd_n _ _ hne]
    exact ⟨h0, (hV c h1).2, h2, h3, h4, h5, h6, chn_upd hV d _ h7⟩
theorem oe_inv : ∀ j, j < 17 → ∀ c, c < 12 → ∀ o, o < 12 → g_otherEnd j (nI c) = nI o → g_otherEnd j (nI o) = nI c := by decide +kernel
theorem nI_m1 : ∀ o, o < 17 → ¬ nI o = (-1) := by decide
def g_search_a_s (src : Int32) (i : Nat) (qd : Nat) (par : Nat → Int32) (que : Nat → Int32) : Nat × (Nat → Int32) × (Nat → Int32) := (if ((src >>> ((nI i) &&& 31)) &&& 1) = 1 then (qd + 1, upd par i (-1), upd que qd (nI i)) else (qd, upd par i (-1), que))
def g_search_a_l (src : Int32) (qd : Nat) (par : Nat → Int32) (que : Nat → Int32) : Nat × (Nat → Int32) × (Nat → Int32) := lpF (fun i z => g_search_a_s src i z.1 z.2.1 z.2.2) 12 0 (qd, par, que)
def g_search_c_s (cap : Nat → Int32) (clo : Nat → Int32) (use : Nat → Int32) (snk : Int32) (cx : Int32) (j : Nat) (qe : Nat) (sn : Int32) (pa : Nat → Int32) (qu : Nat → Int32) : (Nat × Int32 × (Nat → Int32) × (Nat → Int32)) ⊕ (Int32 × (Nat → Int32) × (Nat → Int32)) := (if (g_otherEnd j cx) = (-1) then (.inl (qe, sn, pa, qu)) else (if ((sn >>> ((nI ((g_otherEnd j cx).toNatClampNeg)) &&& 31)) &&& 1) = 0 then (if (g_left cap clo use j cx) ≤ 0 then (.inl (qe, sn, pa, qu)) else (if ((snk >>> ((nI ((g_otherEnd j cx).toNatClampNeg)) &&& 31)) &&& 1) = 1 then (.inr (nI ((g_otherEnd j cx).toNatClampNeg), upd pa ((g_otherEnd j cx).toNatClampNeg) (nI j), qu)) else (.inl (qe + 1, sn ||| (1 <<< ((nI ((g_otherEnd j cx).toNatClampNeg)) &&& 31)), upd pa ((g_otherEnd j cx).toNatClampNeg) (nI j), upd qu qe (nI ((g_otherEnd j cx).toNatClampNeg)))))) else (.inl (qe, sn, pa, qu))))
def g_search_c_l (cap : Nat → Int32) (clo : Nat → Int32) (use : Nat → Int32) (snk : Int32) (cx : Int32) (qe : Nat) (sn : Int32) (pa : Nat → Int32) (qu : Nat → Int32) : (Nat × Int32 × (Nat → Int32) × (Nat → Int32)) ⊕ (Int32 × (Nat → Int32) × (Nat → Int32)) := lpE (fun j z => g_search_c_s cap clo use snk cx j z.1 z.2.1 z.2.2.1 z.2.2.2) 17 0 (qe, sn, pa, qu)
def g_search_b_s (cap : Nat → Int32) (clo : Nat → Int32) (use : Nat → Int32) (snk : Int32) (i : Nat) (qd : Nat) (seen : Int32) (par : Nat → Int32) (que : Nat → Int32) : (Nat × Int32 × (Nat → Int32) × (Nat → Int32)) ⊕ (Int32 × (Nat → Int32) × (Nat → Int32)) := (if (nI qd) ≤ (nI i) then (.inr ((-1), par, que)) else (match g_search_c_l cap clo use snk (que i) qd seen par que with | .inl (qe12, sn12, pa12, qu12) => (.inl (qe12, sn12, pa12, qu12)) | .inr r_12 => (.inr r_12)))
def g_search_b_l (cap : Nat → Int32) (clo : Nat → Int32) (use : Nat → Int32) (snk : Int32) (qd : Nat) (seen : Int32) (par : Nat → Int32) (que : Nat → Int32) : (Nat × Int32 × (Nat → Int32) × (Nat → Int32)) ⊕ (Int32 × (Nat → Int32) × (Nat → Int32)) := lpE (fun i z => g_search_b_s cap clo use snk i z.1 z.2.1 z.2.2.1 z.2.2.2) 12 0 (qd, seen, par, que)
def g_search (cap : Nat → Int32) (clo : Nat → Int32) (use : Nat → Int32) (par : Nat → Int32) (que : Nat → Int32) (src : Int32) (snk : Int32) : Int32 × (Nat → Int32) × (Nat → Int32) := (match g_search_b_l cap clo use snk ((g_search_a_l src 0 par que).1) src ((g_search_a_l src 0 par que).2.1) ((g_search_a_l src 0 par que).2.2) with | .inl (qd14, seen14, par14, que14) => ((-1), par14, que14) | .inr r_14 => r_14)
theorem srchA_inv {src : Int32} {i : Nat} {z : Nat × (Nat → Int32) × (Nat → Int32)} (hi : i < 12) (h : z.1 + cU src i = i) : (g_search_a_s src i z.1 z.2.1 z.2.2).1 + cU src (i + 1) = i + 1 := by
  unfold g_search_a_s
  have hu : cU src (i + 1) = cU src i + if bt src i = true then 0 else 1 := rfl
  by_cases h1 : ((src >>> (nI i &&& 31)) &&& 1) = 1
  · rw [if_pos h1, hu, if_pos ((bI_1 (by omega)).mp h1)]
    show z.1 + 1 + _ = _
    omega
  · rw [if_neg h1, hu, if_neg (fun h => h1 ((bI_1 (by omega)).mpr h))]
    show z.1 + _ = _
    omega
theorem srchA_end (src : Int32) (par que : Nat → Int32) : (g_search_a_l src 0 par que).1 + cU src 12 = 12 := lpF_inv (fun i z => g_search_a_s src i z.1 z.2.1 z.2.2) (fun i z => z.1 + cU src i = i) 12 (fun i z hi h => srchA_inv hi h) 12 0 (0, par, que) rfl rfl
theorem srchC_inv {cap clo use : Nat → Int32} {snk cx : Int32} {j : Nat} {z z2 : Nat × Int32 × (Nat → Int32) × (Nat → Int32)} (hj : j < 17) (h : z.1 + cU z.2.1 12 ≤ 12) (e : Sum.inl z2 = g_search_c_s cap clo use snk cx j z.1 z.2.1 z.2.2.1 z.2.2.2) : z2.1 + cU z2.2.1 12 ≤ 12 := by
  unfold g_search_c_s at e
  split at e
  · cases e; exact h
  · rename_i h1
    have ho := otherEnd_in hj h1
    split at e
    · rename_i h2
      split at e
      · cases e; exact h
      · split at e
        · cases e
        · cases e
          show z.1 + 1 + cU (z.2.1 ||| _) 12 ≤ 12
          have := cU_set ((bI_0 (Nat.lt_trans ho.2 (by decide))).mp h2) ho.2 12 (by decide) ho.2
          omega
    · cases e; exact h
theorem srchB_inv {cap clo use : Nat → Int32} {snk : Int32} {i : Nat} {z z2 : Nat × Int32 × (Nat → Int32) × (Nat → Int32)} (h : z.1 + cU z.2.1 12 ≤ 12) (e : Sum.inl z2 = g_search_b_s cap clo use snk i z.1 z.2.1 z.2.2.1 z.2.2.2) : z2.1 + cU z2.2.1 12 ≤ 12 := by
  unfold g_search_b_s at e
  split at e
  · cases e
  · have h1 := (lpE_inv (fun j z => g_search_c_s cap clo use snk (z2.2.2.2 i) j z.1 z.2.1 z.2.2.1 z.2.2.2) (fun _ z => z.1 + cU z.2.1 12 ≤ 12) (fun _ => True) 17 (fun j s s2 hj h e => srchC_inv hj h e.symm) (fun _ _ _ _ _ _ => trivial) 17 0 z rfl h).1
    have h2 := (lpE_inv (fun j z' => g_search_c_s cap clo use snk (z.2.2.2 i) j z'.1 z'.2.1 z'.2.2.1 z'.2.2.2) (fun _ z => z.1 + cU z.2.1 12 ≤ 12) (fun _ => True) 17 (fun j s s2 hj h e => srchC_inv hj h e.symm) (fun _ _ _ _ _ _ => trivial) 17 0 (z.1, z.2.1, z.2.2.1, z.2.2.2) rfl h).1
    split at e
    · rename_i he
      cases e
      exact h2 _ he
    · cases e
theorem ds_X0_search : dsc yX0_search 2 := by unfold dsc; decide +kernel
set_option maxHeartbeats 4000000 in
theorem met_X0_search (l : Launch) (D : va_G) (h : Nat) (q : Nat → Nat) (dZ dB : ClassId) (cap clo use len set par que : Nat → Int32) (src : Int32) (snk : Int32) : Ctd l yX0_search cX0_search 9 (some .int) (rmk 2 43) [.ref h, .int src, .int snk] D (tyZ dZ dB) (gW h q dZ dB cap clo use len set par que) (some (.int ((g_search cap clo use par que src snk).1))) (gW h q dZ dB cap clo use len set ((g_search cap clo use par que src snk).2.1) ((g_search cap clo use par que src snk).2.2)) := by
  refine Ctd.ofJi (by decide) (Nat.le_of_ble_eq_true rfl) ?_
  intro p e s m args below meth c A Q C T
  show J p l e (rmk 2 43) s m args below meth c D A 9 0 0 Q (gW h q dZ dB cap clo use len set par que) 0 [(0, .ref h), (1, .int src), (2, .int snk)] []
  refine j_iconst C 0 dX0_search_0 (by decide) rfl ?_
  refine j_istore_n C [(3, .int 0), (0, .ref h), (1, .int src), (2, .int snk)] rfl (by decide) rfl dX0_search_1 rfl ?_
  refine j_iload_n C 2 rfl rfl dX0_search_2 rfl ?_
  refine j_istore C [(4, .int src), (3, .int 0), (0, .ref h), (1, .int src), (2, .int snk)] (by decide) rfl dX0_search_3 rfl ?_
  refine j_iconst C 0 dX0_search_5 (by decide) rfl ?_
  refine j_istore C [(5, .int 0), (4, .int src), (3, .int 0), (0, .ref h), (1, .int src), (2, .int snk)] (by decide) rfl dX0_search_6 rfl ?_
  refine j_lv [3, 4, 5, 1, 2, 0] (lv' := [(0, .ref h), (1, .int src), (2, .int snk), (4, .int src), (3, .int 0), (5, .int 0)]) rfl ?_
  refine lpF_rule (σ := Nat × (Nat → Int32) × (Nat → Int32)) (fun i z => g_search_a_s src i z.1 z.2.1 z.2.2) 12 (fun i z => J p l e (rmk 2 43) s m args below meth c D A 9 0 0 Q (gW h q dZ dB cap clo use len set z.2.1 z.2.2) 8 [(0, .ref h), (1, .int src), (2, .int snk), (4, .int src), (3, .int (nI z.1)), (5, .int (nI i))] []) (fun z => J p l e (rmk 2 43) s m args below meth c D A 9 0 0 Q (gW h q dZ dB cap clo use len set z.2.1 z.2.2) 50 [(0, .ref h), (1, .int src), (2, .int snk), (4, .int src), (3, .int (nI z.1))] []) (fun i z => z.1 + cU src i = i) ?_ ?_ (fun i z hi h => srchA_inv hi h) 12 0 (0, par, que) (Nat.zero_add 12) rfl ?_
  · rintro ⟨qd, par, que⟩ - E
    show J p l e (rmk 2 43) s m args below meth c D A 9 0 0 Q (gW h q dZ dB cap clo use len set par que) 8 [(0, .ref h), (1, .int src), (2, .int snk), (4, .int src), (3, .int (nI qd)), (5, .int (nI 12))] []
    refine j_iload C 5 rfl dX0_search_8 rfl ?_
    refine j_bipush C 12 dX0_search_10 (by decide) rfl ?_
    refine j_icmp_ge C 50 dX0_search_12 (by decide) rfl (fun _ => ?_) (fun c_1 => absurd (nI_le (a := 12) (b := 12) (by decide) (by decide)) c_1)
    exact j_lv [0, 1, 2, 3, 4] rfl E
  · rintro i ⟨qd, par, que⟩ hi hI K
    show J p l e (rmk 2 43) s m args below meth c D A 9 0 0 Q (gW h q dZ dB cap clo use len set par que) 8 [(0, .ref h), (1, .int src), (2, .int snk), (4, .int src), (3, .int (nI qd)), (5, .int (nI i))] []
    refine j_iload C 5 rfl dX0_search_8 rfl ?_
    refine j_bipush C 12 dX0_search_10 (by decide) rfl ?_
    refine j_icmp_ge C 50 dX0_search_12 (by decide) rfl (fun c_2 => absurd c_2 (nI_ge (a := i) (b := 12) hi (by decide))) (fun _ => ?_)
    refine j_aload_n C 0 rfl rfl dX0_search_15 rfl ?_
    refine j_get0 C 5 rfl (by decide) q30 rfl rfl dX0_search_16 rfl ?_
    refine j_iload C 5 rfl dX0_search_19 rfl ?_
    refine j_iconst C (-1) dX0_search_21 (by decide) rfl ?_
    refine j_iast (k := i) C 6 (gW h q dZ dB cap clo use len set (upd par i (-1)) que) rfl rfl hi (by decide) rfl dX0_search_22 rfl ?_
    refine j_iload_n C 1 rfl rfl dX0_search_23 rfl ?_
    refine j_iload C 5 rfl dX0_search_24 rfl ?_
    refine j_ishr C dX0_search_26 rfl ?_
    refine j_iconst C 1 dX0_search_27 (by decide) rfl ?_
    refine j_iand C dX0_search_28 rfl ?_
    refine j_iconst C 1 dX0_search_29 (by decide) rfl ?_
    refine j_icmp_ne C 44 dX0_search_30 (by decide) rfl (fun c_3 => ?_) (fun c_3 => ?_)
    · refine j_iinc C [(5, .int (nI (i + 1))), (0, .ref h), (1, .int src), (2, .int snk), (4, .int src), (3, .int (nI qd))] 5 rfl (nI_1 _) (by decide) rfl dX0_search_44 rfl ?_
      refine j_goto C 8 dX0_search_47 (by decide) ?_
      refine j_lv [1, 2, 3, 4, 5, 0] (lv' := [(0, .ref h), (1, .int src), (2, .int snk), (4, .int src), (3, .int (nI qd)), (5, .int (nI (i + 1)))]) rfl ?_
      exact K (qd, upd par i (-1), que) (by show _ = g_search_a_s src i qd par que; unfold g_search_a_s; rw [if_neg c_3])
    · refine j_aload_n C 0 rfl rfl dX0_search_33 rfl ?_
      refine j_get0 C 6 rfl (by decide) q31 rfl rfl dX0_search_34 rfl ?_
      refine j_iload_n C 4 rfl rfl dX0_search_37 rfl ?_
      refine j_iload C 5 rfl dX0_search_38 rfl ?_
      refine j_iast (k := qd) C 7 (gW h q dZ dB cap clo use len set (upd par i (-1)) (upd que qd (nI i))) rfl rfl (by have h9 : qd + cU src i = i := hI; omega) (by decide) rfl dX0_search_40 rfl ?_
      refine j_iinc C [(3, .int (nI (qd + 1))), (0, .ref h), (1, .int src), (2, .int snk), (4, .int src), (5, .int (nI i))] 4 rfl (nI_1 _) (by decide) rfl dX0_search_41 rfl ?_
      refine j_iinc C [(5, .int (nI (i + 1))), (3, .int (nI (qd + 1))), (0, .ref h), (1, .int src), (2, .int snk), (4, .int src)] 5 rfl (nI_1 _) (by decide) rfl dX0_search_44 rfl ?_
      refine j_goto C 8 dX0_search_47 (by decide) ?_
      refine j_lv [2, 3, 4, 5, 1, 0] (lv' := [(0, .ref h), (1, .int src), (2, .int snk), (4, .int src), (3, .int (nI (qd + 1))), (5, .int (nI (i + 1)))]) rfl ?_
      exact K (qd + 1, upd par i (-1), upd que qd (nI i)) (by show _ = g_search_a_s src i qd par que; unfold g_search_a_s; rw [if_pos c_3])
  intro hE
  show J p l e (rmk 2 43) s m args below meth c D A 9 0 0 Q (gW h q dZ dB cap clo use len set ((g_search_a_l src 0 par que).2.1) ((g_search_a_l src 0 par que).2.2)) 50 [(0, .ref h), (1, .int src), (2, .int snk), (4, .int src), (3, .int (nI ((g_search_a_l src 0 par que).1)))] []
  refine j_iconst C 0 dX0_search_50 (by decide) rfl ?_
  refine j_istore C [(5, .int 0), (0, .ref h), (1, .int src), (2, .int snk), (4, .int src), (3, .int (nI ((g_search_a_l src 0 par que).1)))] (by decide) rfl dX0_search_51 rfl ?_
  refine j_lv [1, 3, 5, 4, 0] (lv' := [(0, .ref h), (2, .int snk), (3, .int (nI ((g_search_a_l src 0 par que).1))), (4, .int src), (5, .int 0)]) rfl ?_
  refine lpE_rule (σ := Nat × Int32 × (Nat → Int32) × (Nat → Int32)) (ρ := Int32 × (Nat → Int32) × (Nat → Int32)) (fun i z => g_search_b_s cap clo use snk i z.1 z.2.1 z.2.2.1 z.2.2.2) 12 (fun i z => J p l e (rmk 2 43) s m args below meth c D A 9 0 0 Q (gW h q dZ dB cap clo use len set z.2.2.1 z.2.2.2) 53 [(0, .ref h), (2, .int snk), (3, .int (nI z.1)), (4, .int z.2.1), (5, .int (nI i))] []) (fun z => J p l e (rmk 2 43) s m args below meth c D A 9 0 0 Q (gW h q dZ dB cap clo use len set z.2.2.1 z.2.2.2) 175 [(0, .ref h), (2, .int snk), (3, .int (nI z.1)), (4, .int z.2.1)] []) (fun r => ∀ pc lv, decode cX0_search pc = .ok (.ireturn, 1) → J p l e (rmk 2 43) s m args below meth c D A 9 0 0 Q (gW h q dZ dB cap clo use len set r.2.1 r.2.2) pc lv [.int r.1]) (fun i z => z.1 + cU z.2.1 12 ≤ 12) ?_ ?_ (fun i z z2 hi h e => srchB_inv h e) 12 0 ((g_search_a_l src 0 par que).1, src, (g_search_a_l src 0 par que).2.1, (g_search_a_l src 0 par que).2.2) (Nat.zero_add 12) (Nat.le_of_eq (srchA_end src par que)) ?_ ?_
  · rintro ⟨qd, seen, par, que⟩ - E
    show J p l e (rmk 2 43) s m args below meth c D A 9 0 0 Q (gW h q dZ dB cap clo use len set par que) 53 [(0, .ref h), (2, .int snk), (3, .int (nI qd)), (4, .int seen), (5, .int (nI 12))] []
    refine j_iload C 4 rfl dX0_search_53 rfl ?_
    refine j_bipush C 12 dX0_search_55 (by decide) rfl ?_
    refine j_icmp_ge C 175 dX0_search_57 (by decide) rfl (fun _ => ?_) (fun c_4 => absurd (nI_le (a := 12) (b := 12) (by decide) (by decide)) c_4)
    exact j_lv [0, 1, 2, 3] rfl E
  · rintro i ⟨qd, seen, par, que⟩ hi hI K K2
    show J p l e (rmk 2 43) s m args below meth c D A 9 0 0 Q (gW h q dZ dB cap clo use len set par que) 53 [(0, .ref h), (2, .int snk), (3, .int (nI qd)), (4, .int seen), (5, .int (nI i))] []
    refine j_iload C 4 rfl dX0_search_53 rfl ?_
    refine j_bipush C 12 dX0_search_55 (by decide) rfl ?_
    refine j_icmp_ge C 175 dX0_search_57 (by decide) rfl (fun c_5 => absurd c_5 (nI_ge (a := i) (b := 12) hi (by decide))) (fun _ => ?_)
    refine j_iload C 4 rfl dX0_search_60 rfl ?_
    refine j_iload_n C 2 rfl rfl dX0_search_62 rfl ?_
    refine j_icmp_ge C 175 dX0_search_63 (by decide) rfl (fun c_6 => ?_) (fun c_6 => ?_)
    · refine j_iconst C (-1) dX0_search_175 (by decide) rfl ?_
      exact K2 ((-1), par, que) (by show _ = g_search_b_s cap clo use snk i qd seen par que; unfold g_search_b_s; rw [if_pos c_6]) _ _ dX0_search_176
    · refine j_aload_n C 0 rfl rfl dX0_search_66 rfl ?_
      refine j_get0 C 6 rfl (by decide) q31 rfl rfl dX0_search_67 rfl ?_
      refine j_iload C 4 rfl dX0_search_70 rfl ?_
      refine j_iald (k := i) C 7 rfl rfl hi (by decide) dX0_search_72 rfl ?_
      refine j_istore C [(6, .int (que i)), (0, .ref h), (2, .int snk), (3, .int (nI qd)), (4, .int seen), (5, .int (nI i))] (by decide) rfl dX0_search_73 rfl ?_
      refine j_iconst C 0 dX0_search_75 (by decide) rfl ?_
      refine j_istore C [(7, .int 0), (6, .int (que i)), (0, .ref h), (2, .int snk), (3, .int (nI qd)), (4, .int seen), (5, .int (nI i))] (by decide) rfl dX0_search_76 rfl ?_
      refine j_lv [2, 3, 6, 1, 4, 5, 0] (lv' := [(0, .ref h), (2, .int snk), (5, .int (nI i)), (6, .int (que i)), (3, .int (nI qd)), (4, .int seen), (7, .int 0)]) rfl ?_
      refine lpE_rule (σ := Nat × Int32 × (Nat → Int32) × (Nat → Int32)) (ρ := Int32 × (Nat → Int32) × (Nat → Int32)) (fun j z => g_search_c_s cap clo use snk (que i) j z.1 z.2.1 z.2.2.1 z.2.2.2) 17 (fun j z => J p l e (rmk 2 43) s m args below meth c D A 9 0 0 Q (gW h q dZ dB cap clo use len set z.2.2.1 z.2.2.2) 78 [(0, .ref h), (2, .int snk), (5, .int (nI i)), (6, .int (que i)), (3, .int (nI z.1)), (4, .int z.2.1), (7, .int (nI j))] []) (fun z => J p l e (rmk 2 43) s m args below meth c D A 9 0 0 Q (gW h q dZ dB cap clo use len set z.2.2.1 z.2.2.2) 169 [(0, .ref h), (2, .int snk), (5, .int (nI i)), (6, .int (que i)), (3, .int (nI z.1)), (4, .int z.2.1)] []) (fun r => ∀ pc lv, decode cX0_search pc = .ok (.ireturn, 1) → J p l e (rmk 2 43) s m args below meth c D A 9 0 0 Q (gW h q dZ dB cap clo use len set r.2.1 r.2.2) pc lv [.int r.1]) (fun j z => z.1 + cU z.2.1 12 ≤ 12) ?_ ?_ (fun j z z2 hj h e => srchC_inv hj h e) 17 0 (qd, seen, par, que) (Nat.zero_add 17) hI ?_ ?_
      · rintro ⟨qe, sn, pa, qu⟩ - E
        show J p l e (rmk 2 43) s m args below meth c D A 9 0 0 Q (gW h q dZ dB cap clo use len set pa qu) 78 [(0, .ref h), (2, .int snk), (5, .int (nI i)), (6, .int (que i)), (3, .int (nI qe)), (4, .int sn), (7, .int (nI 17))] []
        refine j_iload C 6 rfl dX0_search_78 rfl ?_
        refine j_bipush C 17 dX0_search_80 (by decide) rfl ?_
        refine j_icmp_ge C 169 dX0_search_82 (by decide) rfl (fun _ => ?_) (fun c_7 => absurd (nI_le (a := 17) (b := 17) (by decide) (by decide)) c_7)
        exact j_lv [0, 1, 2, 3, 4, 5] rfl E
      · rintro j ⟨qe, sn, pa, qu⟩ hj hI K K2
        show J p l e (rmk 2 43) s m args below meth c D A 9 0 0 Q (gW h q dZ dB cap clo use len set pa qu) 78 [(0, .ref h), (2, .int snk), (5, .int (nI i)), (6, .int (que i)), (3, .int (nI qe)), (4, .int sn), (7, .int (nI j))] []
        refine j_iload C 6 rfl dX0_search_78 rfl ?_
        refine j_bipush C 17 dX0_search_80 (by decide) rfl ?_
        refine j_icmp_ge C 169 dX0_search_82 (by decide) rfl (fun c_8 => absurd c_8 (nI_ge (a := j) (b := 17) hj (by decide))) (fun _ => ?_)
        refine j_iload C 6 rfl dX0_search_85 rfl ?_
        refine j_iload C 3 rfl dX0_search_87 rfl ?_
        refine j_callS C (met_X0_otherEnd l D (tyZ dZ dB) j (que i) hj) q120 q121 q15 q122 ds_X0_otherEnd ⟨rfl, rfl⟩ ⟨Nat.le_of_ble_eq_true rfl, Nat.le_of_ble_eq_true rfl⟩ rfl (rest := []) rfl (Nat.le_of_ble_eq_true rfl) ⟨Nat.zero_le _, Nat.zero_le _⟩ dX0_search_89 rfl (st' := [.int (g_otherEnd j (que i))]) rfl ?_
        refine j_istore C [(8, .int (g_otherEnd j (que i))), (0, .ref h), (2, .int snk), (5, .int (nI i)), (6, .int (que i)), (3, .int (nI qe)), (4, .int sn), (7, .int (nI j))] (by decide) rfl dX0_search_92 rfl ?_
        refine j_iload C 0 rfl dX0_search_94 rfl ?_
        refine j_iconst C (-1) dX0_search_96 (by decide) rfl ?_
        refine j_icmp_eq C 163 dX0_search_97 (by decide) rfl (fun c_9 => ?_) (fun c_9 => ?_)
        · refine j_iinc C [(7, .int (nI (j + 1))), (8, .int (g_otherEnd j (que i))), (0, .ref h), (2, .int snk), (5, .int (nI i)), (6, .int (que i)), (3, .int (nI qe)), (4, .int sn)] 7 rfl (nI_1 _) (by decide) rfl dX0_search_163 rfl ?_
          refine j_goto C 78 dX0_search_166 (by decide) ?_
          refine j_lv [2, 3, 4, 5, 6, 7, 0] (lv' := [(0, .ref h), (2, .int snk), (5, .int (nI i)), (6, .int (que i)), (3, .int (nI qe)), (4, .int sn), (7, .int (nI (j + 1)))]) rfl ?_
          exact K (qe, sn, pa, qu) (by show _ = g_search_c_s cap clo use snk (que i) j qe sn pa qu; unfold g_search_c_s; rw [if_pos c_9])
        · have ho1 := otherEnd_in hj c_9
          refine j_lve (lv' := [(8, .int (nI ((g_otherEnd j (que i)).toNatClampNeg))), (0, .ref h), (2, .int snk), (5, .int (nI i)), (6, .int (que i)), (3, .int (nI qe)), (4, .int sn), (7, .int (nI j))]) (by rw [← ho1.1]) ?_
          refine j_iload C 6 rfl dX0_search_100 rfl ?_
          refine j_iload C 0 rfl dX0_search_102 rfl ?_
          refine j_ishr C dX0_search_104 rfl ?_
          refine j_iconst C 1 dX0_search_105 (by decide) rfl ?_
          refine j_iand C dX0_search_106 rfl ?_
          refine j_if_ne C 163 dX0_search_107 (by decide) rfl (fun c_10 => ?_) (fun c_10 => ?_)
          · refine j_iinc C [(7, .int (nI (j + 1))), (8, .int (nI ((g_otherEnd j (que i)).toNatClampNeg))), (0, .ref h), (2, .int snk), (5, .int (nI i)), (6, .int (que i)), (3, .int (nI qe)), (4, .int sn)] 7 rfl (nI_1 _) (by decide) rfl dX0_search_163 rfl ?_
            refine j_goto C 78 dX0_search_166 (by decide) ?_
            refine j_lv [2, 3, 4, 5, 6, 7, 0] (lv' := [(0, .ref h), (2, .int snk), (5, .int (nI i)), (6, .int (que i)), (3, .int (nI qe)), (4, .int sn), (7, .int (nI (j + 1)))]) rfl ?_
            exact K (qe, sn, pa, qu) (by show _ = g_search_c_s cap clo use snk (que i) j qe sn pa qu; unfold g_search_c_s; rw [if_neg c_9]; rw [if_neg c_10])
          · refine j_aload_n C 1 rfl rfl dX0_search_110 rfl ?_
            refine j_iload C 7 rfl dX0_search_111 rfl ?_
            refine j_iload C 4 rfl dX0_search_113 rfl ?_
            refine j_callV C (met_X0_left l D h q dZ dB cap clo use len set pa qu j (que i) hj) q123 q125 qs5 q15 q126 ds_X0_left ⟨rfl, rfl⟩ ⟨Nat.le_of_ble_eq_true rfl, Nat.le_of_ble_eq_true rfl⟩ rfl (rest := []) rfl rfl rfl rfl (Nat.le_of_ble_eq_true rfl) ⟨Nat.zero_le _, Nat.zero_le _⟩ dX0_search_115 rfl (st' := [.int (g_left cap clo use j (que i))]) rfl ?_
            refine j_if_le C 163 dX0_search_118 (by decide) rfl (fun c_11 => ?_) (fun c_11 => ?_)
            · refine j_iinc C [(7, .int (nI (j + 1))), (8, .int (nI ((g_otherEnd j (que i)).toNatClampNeg))), (0, .ref h), (2, .int snk), (5, .int (nI i)), (6, .int (que i)), (3, .int (nI qe)), (4, .int sn)] 7 rfl (nI_1 _) (by decide) rfl dX0_search_163 rfl ?_
              refine j_goto C 78 dX0_search_166 (by decide) ?_
              refine j_lv [2, 3, 4, 5, 6, 7, 0] (lv' := [(0, .ref h), (2, .int snk), (5, .int (nI i)), (6, .int (que i)), (3, .int (nI qe)), (4, .int sn), (7, .int (nI (j + 1)))]) rfl ?_
              exact K (qe, sn, pa, qu) (by show _ = g_search_c_s cap clo use snk (que i) j qe sn pa qu; unfold g_search_c_s; rw [if_neg c_9]; rw [if_pos c_10]; rw [if_pos c_11])
            · refine j_iload C 6 rfl dX0_search_121 rfl ?_
              refine j_iconst C 1 dX0_search_123 (by decide) rfl ?_
              refine j_iload C 0 rfl dX0_search_124 rfl ?_
              refine j_ishl C dX0_search_126 rfl ?_
              refine j_ior C dX0_search_127 rfl ?_
              refine j_istore C [(4, .int (sn ||| (1 <<< ((nI ((g_otherEnd j (que i)).toNatClampNeg)) &&& 31)))), (8, .int (nI ((g_otherEnd j (que i)).toNatClampNeg))), (0, .ref h), (2, .int snk), (5, .int (nI i)), (6, .int (que i)), (3, .int (nI qe)), (7, .int (nI j))] (by decide) rfl dX0_search_128 rfl ?_
              refine j_aload_n C 2 rfl rfl dX0_search_130 rfl ?_
              refine j_get0 C 5 rfl (by decide) q30 rfl rfl dX0_search_131 rfl ?_
              refine j_iload C 1 rfl dX0_search_134 rfl ?_
              refine j_iload C 7 rfl dX0_search_136 rfl ?_
              refine j_iast (k := ((g_otherEnd j (que i)).toNatClampNeg)) C 6 (gW h q dZ dB cap clo use len set (upd pa ((g_otherEnd j (que i)).toNatClampNeg) (nI j)) qu) rfl rfl ho1.2 (by decide) rfl dX0_search_138 rfl ?_
              refine j_iload_n C 3 rfl rfl dX0_search_139 rfl ?_
              refine j_iload C 1 rfl dX0_search_140 rfl ?_
              refine j_ishr C dX0_search_142 rfl ?_
              refine j_iconst C 1 dX0_search_143 (by decide) rfl ?_
              refine j_iand C dX0_search_144 rfl ?_
              refine j_iconst C 1 dX0_search_145 (by decide) rfl ?_
              refine j_icmp_ne C 152 dX0_search_146 (by decide) rfl (fun c_12 => ?_) (fun c_12 => ?_)
              · refine j_aload_n C 2 rfl rfl dX0_search_152 rfl ?_
                refine j_get0 C 6 rfl (by decide) q31 rfl rfl dX0_search_153 rfl ?_
                refine j_iload_n C 6 rfl rfl dX0_search_156 rfl ?_
                refine j_iload C 1 rfl dX0_search_157 rfl ?_
                refine j_iast (k := qe) C 7 (gW h q dZ dB cap clo use len set (upd pa ((g_otherEnd j (que i)).toNatClampNeg) (nI j)) (upd qu qe (nI ((g_otherEnd j (que i)).toNatClampNeg)))) rfl rfl (by have h8 := cU_pos ((bI_0 (Nat.lt_trans ho1.2 (by decide))).mp c_10) (n := 12) ho1.2; have h9 : qe + cU sn 12 ≤ 12 := hI; omega) (by decide) rfl dX0_search_159 rfl ?_
                refine j_iinc C [(3, .int (nI (qe + 1))), (4, .int (sn ||| (1 <<< ((nI ((g_otherEnd j (que i)).toNatClampNeg)) &&& 31)))), (8, .int (nI ((g_otherEnd j (que i)).toNatClampNeg))), (0, .ref h), (2, .int snk), (5, .int (nI i)), (6, .int (que i)), (7, .int (nI j))] 6 rfl (nI_1 _) (by decide) rfl dX0_search_160 rfl ?_
                refine j_iinc C [(7, .int (nI (j + 1))), (3, .int (nI (qe + 1))), (4, .int (sn ||| (1 <<< ((nI ((g_otherEnd j (que i)).toNatClampNeg)) &&& 31)))), (8, .int (nI ((g_otherEnd j (que i)).toNatClampNeg))), (0, .ref h), (2, .int snk), (5, .int (nI i)), (6, .int (que i))] 7 rfl (nI_1 _) (by decide) rfl dX0_search_163 rfl ?_
                refine j_goto C 78 dX0_search_166 (by decide) ?_
                refine j_lv [4, 5, 6, 7, 1, 2, 0] (lv' := [(0, .ref h), (2, .int snk), (5, .int (nI i)), (6, .int (que i)), (3, .int (nI (qe + 1))), (4, .int (sn ||| (1 <<< ((nI ((g_otherEnd j (que i)).toNatClampNeg)) &&& 31)))), (7, .int (nI (j + 1)))]) rfl ?_
                exact K (qe + 1, sn ||| (1 <<< ((nI ((g_otherEnd j (que i)).toNatClampNeg)) &&& 31)), upd pa ((g_otherEnd j (que i)).toNatClampNeg) (nI j), upd qu qe (nI ((g_otherEnd j (que i)).toNatClampNeg))) (by show _ = g_search_c_s cap clo use snk (que i) j qe sn pa qu; unfold g_search_c_s; rw [if_neg c_9]; rw [if_pos c_10]; rw [if_neg c_11]; rw [if_neg c_12])
              · refine j_iload C 1 rfl dX0_search_149 rfl ?_
                exact K2 (nI ((g_otherEnd j (que i)).toNatClampNeg), upd pa ((g_otherEnd j (que i)).toNatClampNeg) (nI j), qu) (by show _ = g_search_c_s cap clo use snk (que i) j qe sn pa qu; unfold g_search_c_s; rw [if_neg c_9]; rw [if_pos c_10]; rw [if_neg c_11]; rw [if_pos c_12]) _ _ dX0_search_151
      · intro s_13 e_13 hE
        obtain ⟨qe13, sn13, pa13, qu13⟩ := s_13
        have e_13 : g_search_c_l cap clo use snk (que i) qd seen par que = .inl (qe13, sn13, pa13, qu13) := e_13
        show J p l e (rmk 2 43) s m args below meth c D A 9 0 0 Q (gW h q dZ dB cap clo use len set pa13 qu13) 169 [(0, .ref h), (2, .int snk), (5, .int (nI i)), (6, .int (que i)), (3, .int (nI qe13)), (4, .int sn13)] []
        refine j_iinc C [(5, .int (nI (i + 1))), (0, .ref h), (2, .int snk), (6, .int (que i)), (3, .int (nI qe13)), (4, .int sn13)] 2 rfl (nI_1 _) (by decide) rfl dX0_search_169 rfl ?_
        refine j_goto C 53 dX0_search_172 (by decide) ?_
        refine j_lv [1, 2, 4, 5, 0] (lv' := [(0, .ref h), (2, .int snk), (3, .int (nI qe13)), (4, .int sn13), (5, .int (nI (i + 1)))]) rfl ?_
        exact K (qe13, sn13, pa13, qu13) (by show _ = g_search_b_s cap clo use snk i qd seen par que; unfold g_search_b_s; rw [if_neg c_6]; rw [e_13]; try dsimp only)
      · intro r_13 e_13
        have e_13 : g_search_c_l cap clo use snk (que i) qd seen par que = .inr r_13 := e_13
        exact K2 r_13 (by show _ = g_search_b_s cap clo use snk i qd seen par que; unfold g_search_b_s; rw [if_neg c_6]; rw [e_13]; try dsimp only)
  · intro s_14 e_14 hE
    obtain ⟨qd14, seen14, par14, que14⟩ := s_14
    have e_14 : g_search_b_l cap clo use snk ((g_search_a_l src 0 par que).1) src ((g_search_a_l src 0 par que).2.1) ((g_search_a_l src 0 par que).2.2) = .inl (qd14, seen14, par14, que14) := e_14
    show J p l e (rmk 2 43) s m args below meth c D A 9 0 0 Q (gW h q dZ dB cap clo use len set par14 que14) 175 [(0, .ref h), (2, .int snk), (3, .int (nI qd14)), (4, .int seen14)] []
    refine j_iconst C (-1) dX0_search_175 (by decide) rfl ?_
    have T := T _ [(0, .ref h), (2, .int snk), (3, .int (nI qd14)), (4, .int seen14)] dX0_search_176
    rw [show g_search cap clo use par que src snk = ((-1), par14, que14) from by unfold g_search; rw [e_14]; try dsimp only] at T
    exact T
  · intro r_14 e_14
    have e_14 : g_search_b_l cap clo use snk ((g_search_a_l src 0 par que).1) src ((g_search_a_l src 0 par que).2.1) ((g_search_a_l src 0 par que).2.2) = .inr r_14 := e_14
    intro pc lv d
    have T := T pc lv d
    rw [show g_search cap clo use par que src snk = r_14 from by unfold g_search; rw [e_14]; try dsimp only] at T
    exact T
end
section
set_option maxRecDepth 100000
/-! what search finds: a way of open streets to a sink, or a set of crossings that nothing leaves -/
def INV (cap clo use : Nat → Int32) (src snk : Int32) (i j : Nat) (qd : Nat) (sn : Int32) (pa qu : Nat → Int32) : Prop :=
  (qd + cU sn 12 ≤ 12) ∧
  (∀ p, p < qd → ∃ c, c < 12 ∧ qu p = nI c ∧ bt sn c = true ∧ ∃ d, d ≤ p ∧ chn (fun c => bt sn c = true) (fun st x => 0 < g_left cap clo use st x) src pa d c) ∧
  (∀ c, c < 12 → bt sn c = true → ∃ p, p < qd ∧ qu p = nI c) ∧
  (∀ c, c < 12 → bt src c = true → bt sn c = true) ∧
  (∀ c, c < 12 → bt sn c = true → bt snk c = true → bt src c = true) ∧
  (∀ p c st o, p < qd → c < 12 → qu p = nI c → st < 17 → (p < i ∨ (p = i ∧ st < j)) → o < 12 → g_otherEnd st (nI c) = nI o → 0 < g_left cap clo use st (nI c) → bt sn o = true)
/-- no way: a set with the sources, with no other sink, that no open street leaves -/
def ClosedS (cap clo use : Nat → Int32) (src snk : Int32) : Prop := ∃ sn : Int32, (∀ c, c < 12 → bt src c = true → bt sn c = true) ∧ (∀ c, c < 12 → bt sn c = true → bt snk c = true → bt src c = true) ∧ (∀ c st o, c < 12 → bt sn c = true → st < 17 → o < 12 → g_otherEnd st (nI c) = nI o → 0 < g_left cap clo use st (nI c) → bt sn o = true)
def FoundS (cap clo use : Nat → Int32) (src snk : Int32) (r : Int32 × (Nat → Int32) × (Nat → Int32)) : Prop := ∃ en, en < 12 ∧ r.1 = nI en ∧ bt snk en = true ∧ bt src en = false ∧ ∃ d, d ≤ 12 ∧ chn (fun _ => True) (fun st x => 0 < g_left cap clo use st x) src r.2.1 d en
theorem INV_closed {cap clo use : Nat → Int32} {src snk : Int32} {i qd : Nat} {sn : Int32} {pa qu : Nat → Int32} (h : INV cap clo use src snk i 0 qd sn pa qu) (hi : qd ≤ i) : ClosedS cap clo use src snk := by
  obtain ⟨-, -, h3, h4, h5, h6⟩ := h
  refine ⟨sn, h4, h5, fun c st o hc hs hst ho he hl => ?_⟩
  obtain ⟨p, hp, hq⟩ := h3 c hc hs
  exact h6 p c st o hp hc hq hst (Or.inl (by omega)) ho he hl
theorem INV_next {cap clo use : Nat → Int32} {src snk : Int32} {i qd : Nat} {sn : Int32} {pa qu : Nat → Int32} (h : INV cap clo use src snk i 17 qd sn pa qu) : INV cap clo use src snk (i + 1) 0 qd sn pa qu := by
  obtain ⟨h1, h2, h3, h4, h5, h6⟩ := h
  refine ⟨h1, h2, h3, h4, h5, fun p c st o hp hc hq hst hor ho he hl => h6 p c st o hp hc hq hst ?_ ho he hl⟩
  rcases hor with h | ⟨h, h'⟩
  · rcases Nat.lt_or_ge p i with h1 | h1
    · exact Or.inl h1
    · exact Or.inr ⟨by omega, hst⟩
  · exact absurd h' (Nat.not_lt_zero _)
/-- the state stays: one more street is looked at -/
theorem INV_stay {cap clo use : Nat → Int32} {src snk : Int32} {i j qd : Nat} {sn : Int32} {pa qu : Nat → Int32} (h : INV cap clo use src snk i j qd sn pa qu) (hk : ∀ c o, c < 12 → qu i = nI c → o < 12 → g_otherEnd j (nI c) = nI o → 0 < g_left cap clo use j (nI c) → bt sn o = true) : INV cap clo use src snk i (j + 1) qd sn pa qu := by
  obtain ⟨h1, h2, h3, h4, h5, h6⟩ := h
  refine ⟨h1, h2, h3, h4, h5, fun p c st o hp hc hq hst hor ho he hl => ?_⟩
  rcases hor with h | ⟨h, h'⟩
  · exact h6 p c st o hp hc hq hst (Or.inl h) ho he hl
  · rcases Nat.lt_or_ge st j with h7 | h7
    · exact h6 p c st o hp hc hq hst (Or.inr ⟨h, h7⟩) ho he hl
    · have : st = j := by omega
      subst this; subst h
      exact hk c o hc hq ho he hl
theorem nI_inj12 {a b : Nat} (ha : a < 12) (hb : b < 12) (h : nI a = nI b) : a = b := (nI_eq (by omega) (by omega)).mp h
set_option maxHeartbeats 1000000 in
theorem srch_step {cap clo use : Nat → Int32} {src snk cx : Int32} {i j qe : Nat} {sn : Int32} {pa qu : Nat → Int32} (hj : j < 17) (hi : i < qe) (hcx : qu i = cx) (h : INV cap clo use src snk i j qe sn pa qu) :
    (∀ z, g_search_c_s cap clo use snk cx j qe sn pa qu = .inl z → i < z.1 ∧ z.2.2.2 i = cx ∧ INV cap clo use src snk i (j + 1) z.1 z.2.1 z.2.2.1 z.2.2.2) ∧ (∀ r, g_search_c_s cap clo use snk cx j qe sn pa qu = .inr r → FoundS cap clo use src snk r) := by
  have hI := h
  obtain ⟨h1, h2, h3, h4, h5, h6⟩ := h
  obtain ⟨c0, hc0, hq0, hs0, d, hd, hch⟩ := h2 i hi
  have hcx' : cx = nI c0 := hcx.symm.trans hq0
  subst hcx'
  unfold g_search_c_s
  by_cases g1 : g_otherEnd j (nI c0) = (-1)
  · rw [if_pos g1]
    refine ⟨fun z e => ?_, fun r e => (by cases e)⟩
    cases e
    refine ⟨hi, hcx, INV_stay hI (fun c o hc hq ho he hl => ?_)⟩
    have : c = c0 := nI_inj12 hc hc0 (hq.symm.trans hq0)
    subst this
    rw [g1] at he
    exact absurd he.symm (nI_m1 o (by omega))
  · rw [if_neg g1]
    obtain ⟨he1, ho1⟩ := otherEnd_in hj g1
    generalize hog : (g_otherEnd j (nI c0)).toNatClampNeg = o1 at he1 ho1 ⊢
    have key : ∀ c o, c < 12 → qu i = nI c → o < 12 → g_otherEnd j (nI c) = nI o → c = c0 ∧ o = o1 := by
      intro c o hc hq ho' he
      have e1 : c = c0 := nI_inj12 hc hc0 (hq.symm.trans hq0)
      subst e1
      exact ⟨rfl, nI_inj12 ho' ho1 (he.symm.trans he1)⟩
    by_cases g2 : ((sn >>> (nI o1 &&& 31)) &&& 1) = 0
    · rw [if_pos g2]
      have hun : bt sn o1 = false := (bI_0 (by omega)).mp g2
      by_cases g3 : g_left cap clo use j (nI c0) ≤ 0
      · rw [if_pos g3]
        refine ⟨fun z e => ?_, fun r e => (by cases e)⟩
        cases e
        refine ⟨hi, hcx, INV_stay hI (fun c o hc hq ho he hl => ?_)⟩
        obtain ⟨e1, e2⟩ := key c o hc hq ho he
        subst e1
        exact absurd g3 (Int32.not_le.mpr hl)
      · rw [if_neg g3]
        have hl : 0 < g_left cap clo use j (nI c0) := Int32.not_le.mp g3
        have hns : bt src o1 = false := by
          cases hb : bt src o1 with
          | false => rfl
          | true => rw [h4 o1 ho1 hb] at hun; cases hun
        have hin : g_otherEnd j (nI o1) = nI c0 := oe_inv j hj c0 hc0 o1 ho1 he1
        -- the new way
        have hnew : ∀ Vs' : Nat → Prop, (∀ c, bt sn c = true → Vs' c) → Vs' o1 → chn Vs' (fun st x => 0 < g_left cap clo use st x) src (upd pa o1 (nI j)) (d + 1) o1 := by
          intro Vs' hv hvo
          unfold chn
          rw [upd_s, nI_clamp (by omega), hin, nI_clamp (by omega)]
          refine ⟨ho1, hvo, (bI_0 (by omega)).mpr hns, rfl, hj, nI_m1 c0 (by omega), hl, ?_⟩
          exact chn_upd (Vs := fun c => bt sn c = true) (fun c hc => ⟨fun e => (by rw [e, hun] at hc; cases hc), hv c hc⟩) d c0 hch
        by_cases g4 : ((snk >>> (nI o1 &&& 31)) &&& 1) = 1
        · rw [if_pos g4]
          refine ⟨fun z e => (by cases e), fun r e => ?_⟩
          cases e
          have hq : qe ≤ 12 := by omega
          exact ⟨o1, ho1, rfl, (bI_1 (by omega)).mp g4, hns, d + 1, by omega, hnew _ (fun _ _ => trivial) trivial⟩
        · rw [if_neg g4]
          refine ⟨fun z e => ?_, fun r e => (by cases e)⟩
          cases e
          have hcu := cU_set hun ho1 12 (by decide) ho1
          have hset : ∀ c, c < 12 → bt (sn ||| (1 <<< (nI o1 &&& 31))) c = (bt sn c || decide (c = o1)) := fun c hc => bt_set sn (by omega) (by omega)
          have hmono : ∀ c, c < 12 → bt sn c = true → bt (sn ||| (1 <<< (nI o1 &&& 31))) c = true := fun c hc hb => by rw [hset c hc, hb, Bool.true_or]
          have hmonoA : ∀ c, bt sn c = true → bt (sn ||| (1 <<< (nI o1 &&& 31))) c = true := fun c hb => by rw [b_or, hb, Bool.true_or]
          have hso : bt (sn ||| (1 <<< (nI o1 &&& 31))) o1 = true := by rw [hset o1 ho1, decide_eq_true rfl, Bool.or_true]
          have hlt : qe < 12 := by have := cU_pos hun (n := 12) ho1; omega
          refine ⟨by show i < qe + 1; omega, by show upd qu qe (nI o1) i = _; rw [upd_n _ _ (by omega)]; exact hcx, ?_⟩
          show INV cap clo use src snk i (j + 1) (qe + 1) (sn ||| (1 <<< (nI o1 &&& 31))) (upd pa o1 (nI j)) (upd qu qe (nI o1))
          refine ⟨by omega, fun p hp => ?_, fun c hc hb => ?_, fun c hc hb => hmono c hc (h4 c hc hb), fun c hc hb hk => ?_, fun p c st o hp hc hq hst hor ho he hl2 => ?_⟩
          · rcases Nat.lt_or_ge p qe with hp1 | hp1
            · obtain ⟨c, hc, hq, hb, d', hd', hch'⟩ := h2 p hp1
              refine ⟨c, hc, by rw [upd_n _ _ (by omega)]; exact hq, hmono c hc hb, d', hd', ?_⟩
              exact chn_upd (Vs := fun c => bt sn c = true) (fun c hc => ⟨fun e => (by rw [e, hun] at hc; cases hc), hmonoA c hc⟩) d' c hch'
            · have : p = qe := by omega
              subst this
              exact ⟨o1, ho1, by rw [upd_s], hso, d + 1, by omega, hnew _ hmonoA hso⟩
          · by_cases hco : c = o1
            · subst hco
              exact ⟨qe, by omega, by rw [upd_s]⟩
            · rw [hset c hc, decide_eq_false hco, Bool.or_false] at hb
              obtain ⟨p, hp, hq⟩ := h3 c hc hb
              exact ⟨p, by omega, by rw [upd_n _ _ (by omega)]; exact hq⟩
          · by_cases hco : c = o1
            · subst hco
              exact absurd ((bI_1 (by omega)).mpr hk) g4
            · rw [hset c hc, decide_eq_false hco, Bool.or_false] at hb
              exact h5 c hc hb hk
          · have hpq : p ≤ i := by rcases hor with h | h <;> omega
            rw [upd_n _ _ (by omega)] at hq
            rcases hor with h | ⟨h, h'⟩
            · exact hmono o ho (h6 p c st o (by omega) hc hq hst (Or.inl h) ho he hl2)
            · rcases Nat.lt_or_ge st j with h7 | h7
              · exact hmono o ho (h6 p c st o (by omega) hc hq hst (Or.inr ⟨h, h7⟩) ho he hl2)
              · have : st = j := by omega
                subst this; subst h
                obtain ⟨e1, e2⟩ := key c o hc hq ho he
                rw [e2]; exact hso
    · rw [if_neg g2]
      have hse : bt sn o1 = true := by
        cases hb : bt sn o1 with
        | true => rfl
        | false => exact absurd ((bI_0 (by omega)).mpr hb) g2
      refine ⟨fun z e => ?_, fun r e => (by cases e)⟩
      cases e
      refine ⟨hi, hcx, INV_stay hI (fun c o hc hq ho he hl => ?_)⟩
      obtain ⟨-, e2⟩ := key c o hc hq ho he
      rw [e2]; exact hse
theorem srch_row {cap clo use : Nat → Int32} {src snk cx : Int32} {i qd : Nat} {sn : Int32} {pa qu : Nat → Int32} (hi : i < qd) (hcx : qu i = cx) (h : INV cap clo use src snk i 0 qd sn pa qu) :
    (∀ z, g_search_c_l cap clo use snk cx qd sn pa qu = .inl z → INV cap clo use src snk (i + 1) 0 z.1 z.2.1 z.2.2.1 z.2.2.2) ∧ (∀ r, g_search_c_l cap clo use snk cx qd sn pa qu = .inr r → FoundS cap clo use src snk r) := by
  have hh := lpE_inv (fun j z => g_search_c_s cap clo use snk cx j z.1 z.2.1 z.2.2.1 z.2.2.2) (fun j z => i < z.1 ∧ z.2.2.2 i = cx ∧ INV cap clo use src snk i j z.1 z.2.1 z.2.2.1 z.2.2.2) (FoundS cap clo use src snk) 17 (fun j s s' hj h e => (srch_step hj h.1 h.2.1 h.2.2).1 s' e) (fun j s r hj h e => (srch_step hj h.1 h.2.1 h.2.2).2 r e) 17 0 (qd, sn, pa, qu) rfl ⟨hi, hcx, h⟩
  exact ⟨fun z e => INV_next (hh.1 z e).2.2, fun r e => hh.2 r e⟩
theorem srch_outer {cap clo use : Nat → Int32} {src snk : Int32} {i qd : Nat} {sn : Int32} {pa qu : Nat → Int32} (hi : i < 12) (h : INV cap clo use src snk i 0 qd sn pa qu) :
    (∀ z, g_search_b_s cap clo use snk i qd sn pa qu = .inl z → INV cap clo use src snk (i + 1) 0 z.1 z.2.1 z.2.2.1 z.2.2.2) ∧ (∀ r, g_search_b_s cap clo use snk i qd sn pa qu = .inr r → (r.1 = (-1) ∧ ClosedS cap clo use src snk) ∨ FoundS cap clo use src snk r) := by
  have hq : qd ≤ 12 := by have := h.1; omega
  unfold g_search_b_s
  by_cases g1 : nI qd ≤ nI i
  · rw [if_pos g1]
    refine ⟨fun z e => (by cases e), fun r e => ?_⟩
    cases e
    exact Or.inl ⟨rfl, INV_closed h ((nI_leI (by omega) (by omega)).mp g1)⟩
  · rw [if_neg g1]
    have hlt : i < qd := by
      rcases Nat.lt_or_ge i qd with h | h
      · exact h
      · exact absurd ((nI_leI (by omega) (by omega)).mpr h) g1
    have hh := srch_row hlt rfl h
    cases hm : g_search_c_l cap clo use snk (qu i) qd sn pa qu with
    | inl z1 =>
      obtain ⟨a1, a2, a3, a4⟩ := z1
      refine ⟨fun z e => ?_, fun r e => (by cases e)⟩
      cases e
      exact hh.1 _ hm
    | inr r1 =>
      refine ⟨fun z e => (by cases e), fun r e => ?_⟩
      cases e
      exact Or.inr (hh.2 _ hm)
theorem srch_first (src : Int32) (par que : Nat → Int32) : ∀ qd pa qu, g_search_a_l src 0 par que = (qd, pa, qu) → (∀ p, p < qd → ∃ c, c < 12 ∧ qu p = nI c ∧ bt src c = true) ∧ (∀ c, c < 12 → bt src c = true → ∃ p, p < qd ∧ qu p = nI c) := by
  intro qd pa qu e
  have hh := lpF_inv (fun i z => g_search_a_s src i z.1 z.2.1 z.2.2) (fun i z => (∀ p, p < z.1 → ∃ c, c < i ∧ z.2.2 p = nI c ∧ bt src c = true) ∧ (∀ c, c < i → bt src c = true → ∃ p, p < z.1 ∧ z.2.2 p = nI c)) 12 (fun i z hi h => ?_) 12 0 (0, par, que) rfl ⟨fun p hp => absurd hp (Nat.not_lt_zero p), fun c hc => absurd hc (Nat.not_lt_zero c)⟩
  · rw [show lpF (fun i z => g_search_a_s src i z.1 z.2.1 z.2.2) 12 0 (0, par, que) = (qd, pa, qu) from e] at hh
    exact hh
  · obtain ⟨ha, hb⟩ := h
    unfold g_search_a_s
    by_cases g1 : ((src >>> (nI i &&& 31)) &&& 1) = 1
    · rw [if_pos g1]
      have hs : bt src i = true := (bI_1 (by omega)).mp g1
      refine ⟨fun p hp => ?_, fun c hc hcs => ?_⟩
      · rcases Nat.lt_or_ge p z.1 with h | h
        · obtain ⟨c, hc, hq, hcs⟩ := ha p h
          exact ⟨c, by omega, by show upd z.2.2 z.1 _ p = _; rw [upd_n _ _ (by omega)]; exact hq, hcs⟩
        · have : p = z.1 := by have : p < z.1 + 1 := hp; omega
          subst this
          exact ⟨i, by omega, by show upd z.2.2 z.1 _ z.1 = _; rw [upd_s], hs⟩
      · rcases Nat.lt_or_ge c i with h | h
        · obtain ⟨p, hp, hq⟩ := hb c h hcs
          exact ⟨p, by show p < z.1 + 1; omega, by show upd z.2.2 z.1 _ p = _; rw [upd_n _ _ (by omega)]; exact hq⟩
        · have : c = i := by omega
          subst this
          exact ⟨z.1, by show z.1 < z.1 + 1; omega, by show upd z.2.2 z.1 _ z.1 = _; rw [upd_s]⟩
    · rw [if_neg g1]
      refine ⟨fun p hp => ?_, fun c hc hcs => ?_⟩
      · obtain ⟨c, hc, h⟩ := ha p hp
        exact ⟨c, by omega, h⟩
      · rcases Nat.lt_or_ge c i with h | h
        · exact hb c h hcs
        · have : c = i := by omega
          subst this
          exact absurd ((bI_1 (by omega)).mpr hcs) g1
/-- search: -1 and a set that nothing leaves, or a sink with a way back -/
theorem search_spec (cap clo use par que : Nat → Int32) (src snk : Int32) : ((g_search cap clo use par que src snk).1 = (-1) ∧ ClosedS cap clo use src snk) ∨ FoundS cap clo use src snk (g_search cap clo use par que src snk) := by
  have he := srchA_end src par que
  unfold g_search
  cases ha : g_search_a_l src 0 par que with
  | mk qd rest =>
    obtain ⟨pa, qu⟩ := rest
    rw [ha] at he
    obtain ⟨f1, f2⟩ := srch_first src par que qd pa qu ha
    have h0 : INV cap clo use src snk 0 0 qd src pa qu := by
      refine ⟨Nat.le_of_eq he, fun p hp => ?_, f2, fun _ _ h => h, fun _ _ h _ => h, fun p c st o _ _ _ _ hor => ?_⟩
      · obtain ⟨c, hc, hq, hs⟩ := f1 p hp
        refine ⟨c, hc, hq, hs, 0, Nat.zero_le _, hc, hs, fun h => ?_⟩
        rw [(bI_0 (by omega)).mp h] at hs
        cases hs
      · rcases hor with h | ⟨-, h⟩ <;> exact absurd h (Nat.not_lt_zero _)
    have hh := lpE_inv (fun i z => g_search_b_s cap clo use snk i z.1 z.2.1 z.2.2.1 z.2.2.2) (fun i z => INV cap clo use src snk i 0 z.1 z.2.1 z.2.2.1 z.2.2.2) (fun r => (r.1 = (-1) ∧ ClosedS cap clo use src snk) ∨ FoundS cap clo use src snk r) 12 (fun i s s' hi h e => (srch_outer hi h).1 s' e) (fun i s r hi h e => (srch_outer hi h).2 r e) 12 0 (qd, src, pa, qu) rfl h0
    dsimp only
    cases hm : g_search_b_l cap clo use snk qd src pa qu with
    | inl z1 =>
      obtain ⟨a1, a2, a3, a4⟩ := z1
      have hz := hh.1 _ hm
      exact Or.inl ⟨rfl, INV_closed hz (by have := hz.1; omega)⟩
    | inr r1 => exact hh.2 _ hm
theorem search_in {cap clo use par que : Nat → Int32} {src snk : Int32} (h : ¬ (g_search cap clo use par que src snk).1 = (-1)) : (g_search cap clo use par que src snk).1 = nI (g_search cap clo use par que src snk).1.toNatClampNeg ∧ (g_search cap clo use par que src snk).1.toNatClampNeg < 12 := by
  rcases search_spec cap clo use par que src snk with ⟨h1, -⟩ | ⟨en, h1, h2, -⟩
  · exact absurd h1 h
  · rw [h2, nI_clamp (by omega)]; exact ⟨rfl, h1⟩
theorem search_chn {cap clo use par que : Nat → Int32} {src snk : Int32} (h : ¬ (g_search cap clo use par que src snk).1 = (-1)) : ∃ d, chn (fun _ => True) (fun st x => 0 < g_left cap clo use st x) src (g_search cap clo use par que src snk).2.1 d (g_search cap clo use par que src snk).1.toNatClampNeg := by
  rcases search_spec cap clo use par que src snk with ⟨h1, -⟩ | ⟨en, h1, h2, -, -, d, -, h3⟩
  · exact absurd h1 h
  · refine ⟨d, ?_⟩
    rw [h2, nI_clamp (by omega)]; exact h3
end
section
set_option maxRecDepth 100000
/-- a way back from c to a source, over streets with room left -/
def chP (cap clo use : Nat → Int32) (src : Int32) (par : Nat → Int32) (c : Nat) : Prop := ∃ d, chn (fun _ => True) (fun st x => 0 < g_left cap clo use st x) src par d c
theorem chP_lt {cap clo use : Nat → Int32} {src : Int32} {par : Nat → Int32} {c : Nat} (h : chP cap clo use src par c) : c < 12 := chn_lt h
theorem chP_in {cap clo use : Nat → Int32} {src : Int32} {par : Nat → Int32} {c : Nat} (h : chP cap clo use src par c) (h0 : ((src >>> (nI c &&& 31)) &&& 1) = 0) : par c = nI (par c).toNatClampNeg ∧ (par c).toNatClampNeg < 17 ∧ (g_otherEnd (par c).toNatClampNeg (nI c) = nI (g_otherEnd (par c).toNatClampNeg (nI c)).toNatClampNeg ∧ (g_otherEnd (par c).toNatClampNeg (nI c)).toNatClampNeg < 12) ∧ chP cap clo use src par (g_otherEnd (par c).toNatClampNeg (nI c)).toNatClampNeg := chn_in h h0
def g_push_a_s (cap : Nat → Int32) (clo : Nat → Int32) (use : Nat → Int32) (par : Nat → Int32) (src : Int32) (i : Nat) (amt : Int32) (cc : Nat) : Bool × (Int32 × Nat) := (if ((src >>> ((nI cc) &&& 31)) &&& 1) = 0 then (if amt ≤ (g_left cap clo use ((par cc).toNatClampNeg) (nI ((g_otherEnd (par cc).toNatClampNeg (nI cc)).toNatClampNeg))) then (true, (amt, (g_otherEnd (par cc).toNatClampNeg (nI cc)).toNatClampNeg)) else (true, (g_left cap clo use ((par cc).toNatClampNeg) (nI ((g_otherEnd (par cc).toNatClampNeg (nI cc)).toNatClampNeg)), (g_otherEnd (par cc).toNatClampNeg (nI cc)).toNatClampNeg))) else (false, (amt, cc)))
def g_push_a_l (cap : Nat → Int32) (clo : Nat → Int32) (use : Nat → Int32) (par : Nat → Int32) (src : Int32) (amt : Int32) (cc : Nat) : Int32 × Nat := lpB (fun i z => g_push_a_s cap clo use par src i z.1 z.2) 12 0 (amt, cc)
def g_push_b_s (par : Nat → Int32) (src : Int32) (amt : Int32) (i : Nat) (us : Nat → Int32) (cc : Nat) : Bool × ((Nat → Int32) × Nat) := (if ((src >>> ((nI cc) &&& 31)) &&& 1) = 0 then (if (nI (fe ((par cc).toNatClampNeg))) = (nI ((g_otherEnd (par cc).toNatClampNeg (nI cc)).toNatClampNeg)) then (true, (upd us ((par cc).toNatClampNeg) ((us ((par cc).toNatClampNeg)) + amt), (g_otherEnd (par cc).toNatClampNeg (nI cc)).toNatClampNeg)) else (true, (upd us ((par cc).toNatClampNeg) ((us ((par cc).toNatClampNeg)) + (-amt)), (g_otherEnd (par cc).toNatClampNeg (nI cc)).toNatClampNeg))) else (false, (us, cc)))
def g_push_b_l (par : Nat → Int32) (src : Int32) (amt : Int32) (us : Nat → Int32) (cc : Nat) : (Nat → Int32) × Nat := lpB (fun i z => g_push_b_s par src amt i z.1 z.2) 12 0 (us, cc)
def g_push (cap : Nat → Int32) (clo : Nat → Int32) (use : Nat → Int32) (par : Nat → Int32) (en : Nat) (src : Int32) : Int32 × (Nat → Int32) := ((g_push_a_l cap clo use par src 100000 en).1, (g_push_b_l par src ((g_push_a_l cap clo use par src 100000 en).1) use en).1)
theorem push_a_inv {cap clo use par : Nat → Int32} {src : Int32} {i : Nat} {z z2 : Int32 × Nat} (h : chP cap clo use src par z.2) (e : (true, z2) = g_push_a_s cap clo use par src i z.1 z.2) : chP cap clo use src par z2.2 := by
  unfold g_push_a_s at e
  split at e
  · rename_i h0
    have h1 := (chP_in h h0).2.2.2
    split at e
    · cases e; exact h1
    · cases e; exact h1
  · cases e
theorem push_b_inv {cap clo use par : Nat → Int32} {src amt : Int32} {i : Nat} {z z2 : (Nat → Int32) × Nat} (h : chP cap clo use src par z.2) (e : (true, z2) = g_push_b_s par src amt i z.1 z.2) : chP cap clo use src par z2.2 := by
  unfold g_push_b_s at e
  split at e
  · rename_i h0
    have h1 := (chP_in h h0).2.2.2
    split at e
    · cases e; exact h1
    · cases e; exact h1
  · cases e
theorem ds_X0_push : dsc yX0_push 2 := by unfold dsc; decide +kernel
set_option maxHeartbeats 4000000 in
theorem met_X0_push (l : Launch) (D : va_G) (h : Nat) (q : Nat → Nat) (dZ dB : ClassId) (cap clo use len set par que : Nat → Int32) (en : Nat) (src : Int32) (hen : en < 12) (hch : chP cap clo use src par en) : Ctd l yX0_push cX0_push 8 (some .int) (rmk 2 43) [.ref h, .int (nI en), .int src] D (tyZ dZ dB) (gW h q dZ dB cap clo use len set par que) (some (.int ((g_push cap clo use par en src).1))) (gW h q dZ dB cap clo ((g_push cap clo use par en src).2) len set par que) := by
  refine Ctd.ofJi (by decide) (Nat.le_of_ble_eq_true rfl) ?_
  intro p e s m args below meth c A Q C T
  show J p l e (rmk 2 43) s m args below meth c D A 8 0 0 Q (gW h q dZ dB cap clo use len set par que) 0 [(0, .ref h), (1, .int (nI en)), (2, .int src)] []
  refine j_ldc C q89 dX0_push_0 rfl ?_
  refine j_istore_n C [(3, .int 100000), (0, .ref h), (1, .int (nI en)), (2, .int src)] rfl (by decide) rfl dX0_push_2 rfl ?_
  refine j_iload_n C 2 rfl rfl dX0_push_3 rfl ?_
  refine j_istore C [(4, .int (nI en)), (3, .int 100000), (0, .ref h), (1, .int (nI en)), (2, .int src)] (by decide) rfl dX0_push_4 rfl ?_
  refine j_iconst C 0 dX0_push_6 (by decide) rfl ?_
  refine j_istore C [(5, .int 0), (4, .int (nI en)), (3, .int 100000), (0, .ref h), (1, .int (nI en)), (2, .int src)] (by decide) rfl dX0_push_7 rfl ?_
  refine j_lv [3, 4, 5, 2, 1, 0] (lv' := [(0, .ref h), (1, .int (nI en)), (2, .int src), (3, .int 100000), (4, .int (nI en)), (5, .int 0)]) rfl ?_
  refine lpB_rule (σ := Int32 × Nat) (fun i z => g_push_a_s cap clo use par src i z.1 z.2) 12 (fun i z => J p l e (rmk 2 43) s m args below meth c D A 8 0 0 Q (gW h q dZ dB cap clo use len set par que) 9 [(0, .ref h), (1, .int (nI en)), (2, .int src), (3, .int z.1), (4, .int (nI z.2)), (5, .int (nI i))] []) (fun z => J p l e (rmk 2 43) s m args below meth c D A 8 0 0 Q (gW h q dZ dB cap clo use len set par que) 77 [(0, .ref h), (1, .int (nI en)), (2, .int src), (3, .int z.1), (4, .int (nI z.2))] []) (fun _ z => chP cap clo use src par z.2) ?_ ?_ (fun i z z2 hi h e => push_a_inv h e) 12 0 (100000, en) (Nat.zero_add 12) hch ?_
  · rintro ⟨amt, cc⟩ - E
    show J p l e (rmk 2 43) s m args below meth c D A 8 0 0 Q (gW h q dZ dB cap clo use len set par que) 9 [(0, .ref h), (1, .int (nI en)), (2, .int src), (3, .int amt), (4, .int (nI cc)), (5, .int (nI 12))] []
    refine j_iload C 5 rfl dX0_push_9 rfl ?_
    refine j_bipush C 12 dX0_push_11 (by decide) rfl ?_
    refine j_icmp_ge C 77 dX0_push_13 (by decide) rfl (fun _ => ?_) (fun c_1 => absurd (nI_le (a := 12) (b := 12) (by decide) (by decide)) c_1)
    exact j_lv [0, 1, 2, 3, 4] rfl E
  · rintro i ⟨amt, cc⟩ hi hI K K2
    show J p l e (rmk 2 43) s m args below meth c D A 8 0 0 Q (gW h q dZ dB cap clo use len set par que) 9 [(0, .ref h), (1, .int (nI en)), (2, .int src), (3, .int amt), (4, .int (nI cc)), (5, .int (nI i))] []
    refine j_iload C 5 rfl dX0_push_9 rfl ?_
    refine j_bipush C 12 dX0_push_11 (by decide) rfl ?_
    refine j_icmp_ge C 77 dX0_push_13 (by decide) rfl (fun c_2 => absurd c_2 (nI_ge (a := i) (b := 12) hi (by decide))) (fun _ => ?_)
    refine j_iload_n C 2 rfl rfl dX0_push_16 rfl ?_
    refine j_iload C 4 rfl dX0_push_17 rfl ?_
    refine j_ishr C dX0_push_19 rfl ?_
    refine j_iconst C 1 dX0_push_20 (by decide) rfl ?_
    refine j_iand C dX0_push_21 rfl ?_
    refine j_if_ne C 77 dX0_push_22 (by decide) rfl (fun c_3 => ?_) (fun c_3 => ?_)
    · refine j_lv [0, 1, 2, 3, 4] (lv' := [(0, .ref h), (1, .int (nI en)), (2, .int src), (3, .int amt), (4, .int (nI cc))]) rfl ?_
      exact K2 (amt, cc) (by show _ = g_push_a_s cap clo use par src i amt cc; unfold g_push_a_s; rw [if_neg c_3])
    · have hp1 := chP_in (cap := cap) (clo := clo) (use := use) (src := src) (par := par) (c := cc) hI c_3
      refine j_aload_n C 0 rfl rfl dX0_push_25 rfl ?_
      refine j_get0 C 5 rfl (by decide) q30 rfl rfl dX0_push_26 rfl ?_
      refine j_iload C 4 rfl dX0_push_29 rfl ?_
      refine j_iald (k := cc) C 6 rfl rfl (chP_lt (cap := cap) (clo := clo) (use := use) (src := src) (par := par) (c := cc) hI) (by decide) dX0_push_31 rfl ?_
      refine j_top hp1.1 ?_
      refine j_iload C 4 rfl dX0_push_32 rfl ?_
      refine j_callS C (met_X0_otherEnd l D (tyZ dZ dB) ((par cc).toNatClampNeg) (nI cc) hp1.2.1) q120 q121 q15 q122 ds_X0_otherEnd ⟨rfl, rfl⟩ ⟨Nat.le_of_ble_eq_true rfl, Nat.le_of_ble_eq_true rfl⟩ rfl (rest := []) rfl (Nat.le_of_ble_eq_true rfl) ⟨Nat.zero_le _, Nat.zero_le _⟩ dX0_push_34 rfl (st' := [.int (g_otherEnd ((par cc).toNatClampNeg) (nI cc))]) rfl ?_
      refine j_top hp1.2.2.1.1 ?_
      refine j_istore C [(6, .int (nI ((g_otherEnd (par cc).toNatClampNeg (nI cc)).toNatClampNeg))), (0, .ref h), (1, .int (nI en)), (2, .int src), (3, .int amt), (4, .int (nI cc)), (5, .int (nI i))] (by decide) rfl dX0_push_37 rfl ?_
      refine j_aload_n C 1 rfl rfl dX0_push_39 rfl ?_
      refine j_aload_n C 1 rfl rfl dX0_push_40 rfl ?_
      refine j_get0 C 5 rfl (by decide) q30 rfl rfl dX0_push_41 rfl ?_
      refine j_iload C 5 rfl dX0_push_44 rfl ?_
      refine j_iald (k := cc) C 6 rfl rfl (chP_lt (cap := cap) (clo := clo) (use := use) (src := src) (par := par) (c := cc) hI) (by decide) dX0_push_46 rfl ?_
      refine j_top hp1.1 ?_
      refine j_iload C 0 rfl dX0_push_47 rfl ?_
      refine j_callV C (met_X0_left l D h q dZ dB cap clo use len set par que ((par cc).toNatClampNeg) (nI ((g_otherEnd (par cc).toNatClampNeg (nI cc)).toNatClampNeg)) hp1.2.1) q123 q125 qs5 q15 q126 ds_X0_left ⟨rfl, rfl⟩ ⟨Nat.le_of_ble_eq_true rfl, Nat.le_of_ble_eq_true rfl⟩ rfl (rest := []) rfl rfl rfl rfl (Nat.le_of_ble_eq_true rfl) ⟨Nat.zero_le _, Nat.zero_le _⟩ dX0_push_49 rfl (st' := [.int (g_left cap clo use ((par cc).toNatClampNeg) (nI ((g_otherEnd (par cc).toNatClampNeg (nI cc)).toNatClampNeg)))]) rfl ?_
      refine j_istore C [(7, .int (g_left cap clo use ((par cc).toNatClampNeg) (nI ((g_otherEnd (par cc).toNatClampNeg (nI cc)).toNatClampNeg)))), (6, .int (nI ((g_otherEnd (par cc).toNatClampNeg (nI cc)).toNatClampNeg))), (0, .ref h), (1, .int (nI en)), (2, .int src), (3, .int amt), (4, .int (nI cc)), (5, .int (nI i))] (by decide) rfl dX0_push_52 rfl ?_
      refine j_iload C 0 rfl dX0_push_54 rfl ?_
      refine j_iload_n C 5 rfl rfl dX0_push_56 rfl ?_
      refine j_icmp_ge C 65 dX0_push_57 (by decide) rfl (fun c_4 => ?_) (fun c_4 => ?_)
      · refine j_iload_n C 5 rfl rfl dX0_push_65 rfl ?_
        refine j_istore_n C [(3, .int amt), (7, .int (g_left cap clo use ((par cc).toNatClampNeg) (nI ((g_otherEnd (par cc).toNatClampNeg (nI cc)).toNatClampNeg)))), (6, .int (nI ((g_otherEnd (par cc).toNatClampNeg (nI cc)).toNatClampNeg))), (0, .ref h), (1, .int (nI en)), (2, .int src), (4, .int (nI cc)), (5, .int (nI i))] rfl (by decide) rfl dX0_push_66 rfl ?_
        refine j_iload C 2 rfl dX0_push_67 rfl ?_
        refine j_istore C [(4, .int (nI ((g_otherEnd (par cc).toNatClampNeg (nI cc)).toNatClampNeg))), (3, .int amt), (7, .int (g_left cap clo use ((par cc).toNatClampNeg) (nI ((g_otherEnd (par cc).toNatClampNeg (nI cc)).toNatClampNeg)))), (6, .int (nI ((g_otherEnd (par cc).toNatClampNeg (nI cc)).toNatClampNeg))), (0, .ref h), (1, .int (nI en)), (2, .int src), (5, .int (nI i))] (by decide) rfl dX0_push_69 rfl ?_
        refine j_iinc C [(5, .int (nI (i + 1))), (4, .int (nI ((g_otherEnd (par cc).toNatClampNeg (nI cc)).toNatClampNeg))), (3, .int amt), (7, .int (g_left cap clo use ((par cc).toNatClampNeg) (nI ((g_otherEnd (par cc).toNatClampNeg (nI cc)).toNatClampNeg)))), (6, .int (nI ((g_otherEnd (par cc).toNatClampNeg (nI cc)).toNatClampNeg))), (0, .ref h), (1, .int (nI en)), (2, .int src)] 7 rfl (nI_1 _) (by decide) rfl dX0_push_71 rfl ?_
        refine j_goto C 9 dX0_push_74 (by decide) ?_
        refine j_lv [5, 6, 7, 2, 1, 0] (lv' := [(0, .ref h), (1, .int (nI en)), (2, .int src), (3, .int amt), (4, .int (nI ((g_otherEnd (par cc).toNatClampNeg (nI cc)).toNatClampNeg))), (5, .int (nI (i + 1)))]) rfl ?_
        exact K (amt, (g_otherEnd (par cc).toNatClampNeg (nI cc)).toNatClampNeg) (by show _ = g_push_a_s cap clo use par src i amt cc; unfold g_push_a_s; rw [if_pos c_3]; rw [if_pos c_4])
      · refine j_iload C 0 rfl dX0_push_60 rfl ?_
        refine j_goto C 66 dX0_push_62 (by decide) ?_
        refine j_istore_n C [(3, .int (g_left cap clo use ((par cc).toNatClampNeg) (nI ((g_otherEnd (par cc).toNatClampNeg (nI cc)).toNatClampNeg)))), (7, .int (g_left cap clo use ((par cc).toNatClampNeg) (nI ((g_otherEnd (par cc).toNatClampNeg (nI cc)).toNatClampNeg)))), (6, .int (nI ((g_otherEnd (par cc).toNatClampNeg (nI cc)).toNatClampNeg))), (0, .ref h), (1, .int (nI en)), (2, .int src), (4, .int (nI cc)), (5, .int (nI i))] rfl (by decide) rfl dX0_push_66 rfl ?_
        refine j_iload C 2 rfl dX0_push_67 rfl ?_
        refine j_istore C [(4, .int (nI ((g_otherEnd (par cc).toNatClampNeg (nI cc)).toNatClampNeg))), (3, .int (g_left cap clo use ((par cc).toNatClampNeg) (nI ((g_otherEnd (par cc).toNatClampNeg (nI cc)).toNatClampNeg)))), (7, .int (g_left cap clo use ((par cc).toNatClampNeg) (nI ((g_otherEnd (par cc).toNatClampNeg (nI cc)).toNatClampNeg)))), (6, .int (nI ((g_otherEnd (par cc).toNatClampNeg (nI cc)).toNatClampNeg))), (0, .ref h), (1, .int (nI en)), (2, .int src), (5, .int (nI i))] (by decide) rfl dX0_push_69 rfl ?_
        refine j_iinc C [(5, .int (nI (i + 1))), (4, .int (nI ((g_otherEnd (par cc).toNatClampNeg (nI cc)).toNatClampNeg))), (3, .int (g_left cap clo use ((par cc).toNatClampNeg) (nI ((g_otherEnd (par cc).toNatClampNeg (nI cc)).toNatClampNeg)))), (7, .int (g_left cap clo use ((par cc).toNatClampNeg) (nI ((g_otherEnd (par cc).toNatClampNeg (nI cc)).toNatClampNeg)))), (6, .int (nI ((g_otherEnd (par cc).toNatClampNeg (nI cc)).toNatClampNeg))), (0, .ref h), (1, .int (nI en)), (2, .int src)] 7 rfl (nI_1 _) (by decide) rfl dX0_push_71 rfl ?_
        refine j_goto C 9 dX0_push_74 (by decide) ?_
        refine j_lv [5, 6, 7, 2, 1, 0] (lv' := [(0, .ref h), (1, .int (nI en)), (2, .int src), (3, .int (g_left cap clo use ((par cc).toNatClampNeg) (nI ((g_otherEnd (par cc).toNatClampNeg (nI cc)).toNatClampNeg)))), (4, .int (nI ((g_otherEnd (par cc).toNatClampNeg (nI cc)).toNatClampNeg))), (5, .int (nI (i + 1)))]) rfl ?_
        exact K (g_left cap clo use ((par cc).toNatClampNeg) (nI ((g_otherEnd (par cc).toNatClampNeg (nI cc)).toNatClampNeg)), (g_otherEnd (par cc).toNatClampNeg (nI cc)).toNatClampNeg) (by show _ = g_push_a_s cap clo use par src i amt cc; unfold g_push_a_s; rw [if_pos c_3]; rw [if_neg c_4])
  show J p l e (rmk 2 43) s m args below meth c D A 8 0 0 Q (gW h q dZ dB cap clo use len set par que) 77 [(0, .ref h), (1, .int (nI en)), (2, .int src), (3, .int ((g_push_a_l cap clo use par src 100000 en).1)), (4, .int (nI ((g_push_a_l cap clo use par src 100000 en).2)))] []
  refine j_iload_n C 1 rfl rfl dX0_push_77 rfl ?_
  refine j_istore C [(4, .int (nI en)), (0, .ref h), (1, .int (nI en)), (2, .int src), (3, .int ((g_push_a_l cap clo use par src 100000 en).1))] (by decide) rfl dX0_push_78 rfl ?_
  refine j_iconst C 0 dX0_push_80 (by decide) rfl ?_
  refine j_istore C [(5, .int 0), (4, .int (nI en)), (0, .ref h), (1, .int (nI en)), (2, .int src), (3, .int ((g_push_a_l cap clo use par src 100000 en).1))] (by decide) rfl dX0_push_81 rfl ?_
  refine j_lv [2, 4, 5, 1, 0] (lv' := [(0, .ref h), (2, .int src), (3, .int ((g_push_a_l cap clo use par src 100000 en).1)), (4, .int (nI en)), (5, .int 0)]) rfl ?_
  refine lpB_rule (σ := (Nat → Int32) × Nat) (fun i z => g_push_b_s par src ((g_push_a_l cap clo use par src 100000 en).1) i z.1 z.2) 12 (fun i z => J p l e (rmk 2 43) s m args below meth c D A 8 0 0 Q (gW h q dZ dB cap clo z.1 len set par que) 83 [(0, .ref h), (2, .int src), (3, .int ((g_push_a_l cap clo use par src 100000 en).1)), (4, .int (nI z.2)), (5, .int (nI i))] []) (fun z => J p l e (rmk 2 43) s m args below meth c D A 8 0 0 Q (gW h q dZ dB cap clo z.1 len set par que) 159 [(0, .ref h), (2, .int src), (3, .int ((g_push_a_l cap clo use par src 100000 en).1)), (4, .int (nI z.2))] []) (fun _ z => chP cap clo use src par z.2) ?_ ?_ (fun i z z2 hi h e => push_b_inv h e) 12 0 (use, en) (Nat.zero_add 12) hch ?_
  · rintro ⟨us, cc⟩ - E
    show J p l e (rmk 2 43) s m args below meth c D A 8 0 0 Q (gW h q dZ dB cap clo us len set par que) 83 [(0, .ref h), (2, .int src), (3, .int ((g_push_a_l cap clo use par src 100000 en).1)), (4, .int (nI cc)), (5, .int (nI 12))] []
    refine j_iload C 4 rfl dX0_push_83 rfl ?_
    refine j_bipush C 12 dX0_push_85 (by decide) rfl ?_
    refine j_icmp_ge C 159 dX0_push_87 (by decide) rfl (fun _ => ?_) (fun c_5 => absurd (nI_le (a := 12) (b := 12) (by decide) (by decide)) c_5)
    exact j_lv [0, 1, 2, 3] rfl E
  · rintro i ⟨us, cc⟩ hi hI K K2
    show J p l e (rmk 2 43) s m args below meth c D A 8 0 0 Q (gW h q dZ dB cap clo us len set par que) 83 [(0, .ref h), (2, .int src), (3, .int ((g_push_a_l cap clo use par src 100000 en).1)), (4, .int (nI cc)), (5, .int (nI i))] []
    refine j_iload C 4 rfl dX0_push_83 rfl ?_
    refine j_bipush C 12 dX0_push_85 (by decide) rfl ?_
    refine j_icmp_ge C 159 dX0_push_87 (by decide) rfl (fun c_6 => absurd c_6 (nI_ge (a := i) (b := 12) hi (by decide))) (fun _ => ?_)
    refine j_iload_n C 1 rfl rfl dX0_push_90 rfl ?_
    refine j_iload C 3 rfl dX0_push_91 rfl ?_
    refine j_ishr C dX0_push_93 rfl ?_
    refine j_iconst C 1 dX0_push_94 (by decide) rfl ?_
    refine j_iand C dX0_push_95 rfl ?_
    refine j_if_ne C 159 dX0_push_96 (by decide) rfl (fun c_7 => ?_) (fun c_7 => ?_)
    · refine j_lv [0, 1, 2, 3] (lv' := [(0, .ref h), (2, .int src), (3, .int ((g_push_a_l cap clo use par src 100000 en).1)), (4, .int (nI cc))]) rfl ?_
      exact K2 (us, cc) (by show _ = g_push_b_s par src ((g_push_a_l cap clo use par src 100000 en).1) i us cc; unfold g_push_b_s; rw [if_neg c_7])
    · have hp1 := chP_in (cap := cap) (clo := clo) (use := use) (src := src) (par := par) (c := cc) hI c_7
      refine j_aload_n C 0 rfl rfl dX0_push_99 rfl ?_
      refine j_get0 C 5 rfl (by decide) q30 rfl rfl dX0_push_100 rfl ?_
      refine j_iload C 3 rfl dX0_push_103 rfl ?_
      refine j_iald (k := cc) C 6 rfl rfl (chP_lt (cap := cap) (clo := clo) (use := use) (src := src) (par := par) (c := cc) hI) (by decide) dX0_push_105 rfl ?_
      refine j_top hp1.1 ?_
      refine j_iload C 3 rfl dX0_push_106 rfl ?_
      refine j_callS C (met_X0_otherEnd l D (tyZ dZ dB) ((par cc).toNatClampNeg) (nI cc) hp1.2.1) q120 q121 q15 q122 ds_X0_otherEnd ⟨rfl, rfl⟩ ⟨Nat.le_of_ble_eq_true rfl, Nat.le_of_ble_eq_true rfl⟩ rfl (rest := []) rfl (Nat.le_of_ble_eq_true rfl) ⟨Nat.zero_le _, Nat.zero_le _⟩ dX0_push_108 rfl (st' := [.int (g_otherEnd ((par cc).toNatClampNeg) (nI cc))]) rfl ?_
      refine j_top hp1.2.2.1.1 ?_
      refine j_istore C [(6, .int (nI ((g_otherEnd (par cc).toNatClampNeg (nI cc)).toNatClampNeg))), (0, .ref h), (2, .int src), (3, .int ((g_push_a_l cap clo use par src 100000 en).1)), (4, .int (nI cc)), (5, .int (nI i))] (by decide) rfl dX0_push_111 rfl ?_
      refine j_aload_n C 1 rfl rfl dX0_push_113 rfl ?_
      refine j_get0 C 2 rfl (by decide) q27 rfl rfl dX0_push_114 rfl ?_
      refine j_aload_n C 1 rfl rfl dX0_push_117 rfl ?_
      refine j_get0 C 5 rfl (by decide) q30 rfl rfl dX0_push_118 rfl ?_
      refine j_iload C 4 rfl dX0_push_121 rfl ?_
      refine j_iald (k := cc) C 6 rfl rfl (chP_lt (cap := cap) (clo := clo) (use := use) (src := src) (par := par) (c := cc) hI) (by decide) dX0_push_123 rfl ?_
      refine j_top hp1.1 ?_
      refine j_dup2 C rfl rfl dX0_push_124 rfl ?_
      refine j_iald (k := ((par cc).toNatClampNeg)) C 3 rfl rfl hp1.2.1 (by decide) dX0_push_125 rfl ?_
      refine j_aload_n C 1 rfl rfl dX0_push_126 rfl ?_
      refine j_get0 C 5 rfl (by decide) q30 rfl rfl dX0_push_127 rfl ?_
      refine j_iload C 4 rfl dX0_push_130 rfl ?_
      refine j_iald (k := cc) C 6 rfl rfl (chP_lt (cap := cap) (clo := clo) (use := use) (src := src) (par := par) (c := cc) hI) (by decide) dX0_push_132 rfl ?_
      refine j_top hp1.1 ?_
      refine j_callS C (met_X0_firstEnd l D (tyZ dZ dB) ((par cc).toNatClampNeg) hp1.2.1) q75 q76 q15 q77 ds_X0_firstEnd ⟨rfl, rfl⟩ ⟨Nat.le_of_ble_eq_true rfl, Nat.le_of_ble_eq_true rfl⟩ rfl (rest := [.int (us ((par cc).toNatClampNeg)), .int (nI ((par cc).toNatClampNeg)), .ref (q 2)]) rfl (Nat.le_of_ble_eq_true rfl) ⟨Nat.zero_le _, Nat.zero_le _⟩ dX0_push_133 rfl (st' := [.int (nI (fe ((par cc).toNatClampNeg))), .int (us ((par cc).toNatClampNeg)), .int (nI ((par cc).toNatClampNeg)), .ref (q 2)]) rfl ?_
      refine j_iload C 0 rfl dX0_push_136 rfl ?_
      refine j_icmp_ne C 145 dX0_push_138 (by decide) rfl (fun c_8 => ?_) (fun c_8 => ?_)
      · refine j_iload_n C 3 rfl rfl dX0_push_145 rfl ?_
        refine j_ineg C dX0_push_146 rfl ?_
        refine j_iadd C dX0_push_147 rfl ?_
        refine j_iast (k := ((par cc).toNatClampNeg)) C 3 (gW h q dZ dB cap clo (upd us ((par cc).toNatClampNeg) ((us ((par cc).toNatClampNeg)) + (-((g_push_a_l cap clo use par src 100000 en).1)))) len set par que) rfl rfl hp1.2.1 (by decide) rfl dX0_push_148 rfl ?_
        refine j_iload C 0 rfl dX0_push_149 rfl ?_
        refine j_istore C [(4, .int (nI ((g_otherEnd (par cc).toNatClampNeg (nI cc)).toNatClampNeg))), (6, .int (nI ((g_otherEnd (par cc).toNatClampNeg (nI cc)).toNatClampNeg))), (0, .ref h), (2, .int src), (3, .int ((g_push_a_l cap clo use par src 100000 en).1)), (5, .int (nI i))] (by decide) rfl dX0_push_151 rfl ?_
        refine j_iinc C [(5, .int (nI (i + 1))), (4, .int (nI ((g_otherEnd (par cc).toNatClampNeg (nI cc)).toNatClampNeg))), (6, .int (nI ((g_otherEnd (par cc).toNatClampNeg (nI cc)).toNatClampNeg))), (0, .ref h), (2, .int src), (3, .int ((g_push_a_l cap clo use par src 100000 en).1))] 5 rfl (nI_1 _) (by decide) rfl dX0_push_153 rfl ?_
        refine j_goto C 83 dX0_push_156 (by decide) ?_
        refine j_lv [3, 4, 5, 1, 0] (lv' := [(0, .ref h), (2, .int src), (3, .int ((g_push_a_l cap clo use par src 100000 en).1)), (4, .int (nI ((g_otherEnd (par cc).toNatClampNeg (nI cc)).toNatClampNeg))), (5, .int (nI (i + 1)))]) rfl ?_
        exact K (upd us ((par cc).toNatClampNeg) ((us ((par cc).toNatClampNeg)) + (-((g_push_a_l cap clo use par src 100000 en).1))), (g_otherEnd (par cc).toNatClampNeg (nI cc)).toNatClampNeg) (by show _ = g_push_b_s par src ((g_push_a_l cap clo use par src 100000 en).1) i us cc; unfold g_push_b_s; rw [if_pos c_7]; rw [if_neg c_8])
      · refine j_iload_n C 3 rfl rfl dX0_push_141 rfl ?_
        refine j_goto C 147 dX0_push_142 (by decide) ?_
        refine j_iadd C dX0_push_147 rfl ?_
        refine j_iast (k := ((par cc).toNatClampNeg)) C 3 (gW h q dZ dB cap clo (upd us ((par cc).toNatClampNeg) ((us ((par cc).toNatClampNeg)) + ((g_push_a_l cap clo use par src 100000 en).1))) len set par que) rfl rfl hp1.2.1 (by decide) rfl dX0_push_148 rfl ?_
        refine j_iload C 0 rfl dX0_push_149 rfl ?_
        refine j_istore C [(4, .int (nI ((g_otherEnd (par cc).toNatClampNeg (nI cc)).toNatClampNeg))), (6, .int (nI ((g_otherEnd (par cc).toNatClampNeg (nI cc)).toNatClampNeg))), (0, .ref h), (2, .int src), (3, .int ((g_push_a_l cap clo use par src 100000 en).1)), (5, .int (nI i))] (by decide) rfl dX0_push_151 rfl ?_
        refine j_iinc C [(5, .int (nI (i + 1))), (4, .int (nI ((g_otherEnd (par cc).toNatClampNeg (nI cc)).toNatClampNeg))), (6, .int (nI ((g_otherEnd (par cc).toNatClampNeg (nI cc)).toNatClampNeg))), (0, .ref h), (2, .int src), (3, .int ((g_push_a_l cap clo use par src 100000 en).1))] 5 rfl (nI_1 _) (by decide) rfl dX0_push_153 rfl ?_
        refine j_goto C 83 dX0_push_156 (by decide) ?_
        refine j_lv [3, 4, 5, 1, 0] (lv' := [(0, .ref h), (2, .int src), (3, .int ((g_push_a_l cap clo use par src 100000 en).1)), (4, .int (nI ((g_otherEnd (par cc).toNatClampNeg (nI cc)).toNatClampNeg))), (5, .int (nI (i + 1)))]) rfl ?_
        exact K (upd us ((par cc).toNatClampNeg) ((us ((par cc).toNatClampNeg)) + ((g_push_a_l cap clo use par src 100000 en).1)), (g_otherEnd (par cc).toNatClampNeg (nI cc)).toNatClampNeg) (by show _ = g_push_b_s par src ((g_push_a_l cap clo use par src 100000 en).1) i us cc; unfold g_push_b_s; rw [if_pos c_7]; rw [if_pos c_8])
  show J p l e (rmk 2 43) s m args below meth c D A 8 0 0 Q (gW h q dZ dB cap clo ((g_push_b_l par src ((g_push_a_l cap clo use par src 100000 en).1) use en).1) len set par que) 159 [(0, .ref h), (2, .int src), (3, .int ((g_push_a_l cap clo use par src 100000 en).1)), (4, .int (nI ((g_push_b_l par src ((g_push_a_l cap clo use par src 100000 en).1) use en).2)))] []
  refine j_iload_n C 2 rfl rfl dX0_push_159 rfl ?_
  have T := T _ [(0, .ref h), (2, .int src), (3, .int ((g_push_a_l cap clo use par src 100000 en).1)), (4, .int (nI ((g_push_b_l par src ((g_push_a_l cap clo use par src 100000 en).1) use en).2)))] dX0_push_160
  rw [show g_push cap clo use par en src = ((g_push_a_l cap clo use par src 100000 en).1, (g_push_b_l par src ((g_push_a_l cap clo use par src 100000 en).1) use en).1) from rfl] at T
  exact T
def g_fill_a_s  (i : Nat) (use : Nat → Int32) : (Nat → Int32) := upd use i 0
def g_fill_a_l  (use : Nat → Int32) : (Nat → Int32) := lpF (fun i z => g_fill_a_s  i z) 17 0 use
def g_fill_b_s (cap : Nat → Int32) (clo : Nat → Int32) (src : Int32) (snk : Int32) (i : Nat) (total : Int32) (us : Nat → Int32) (pa : Nat → Int32) (qu : Nat → Int32) : Bool × (Int32 × (Nat → Int32) × (Nat → Int32) × (Nat → Int32)) := (if ((g_search cap clo us pa qu src snk).1) = (-1) then (false, (total, us, (g_search cap clo us pa qu src snk).2.1, (g_search cap clo us pa qu src snk).2.2)) else (true, (total + ((g_push cap clo us ((g_search cap clo us pa qu src snk).2.1) (((g_search cap clo us pa qu src snk).1).toNatClampNeg) src).1), (g_push cap clo us ((g_search cap clo us pa qu src snk).2.1) (((g_search cap clo us pa qu src snk).1).toNatClampNeg) src).2, (g_search cap clo us pa qu src snk).2.1, (g_search cap clo us pa qu src snk).2.2)))
def g_fill_b_l (cap : Nat → Int32) (clo : Nat → Int32) (src : Int32) (snk : Int32) (total : Int32) (us : Nat → Int32) (pa : Nat → Int32) (qu : Nat → Int32) : Int32 × (Nat → Int32) × (Nat → Int32) × (Nat → Int32) := lpB (fun i z => g_fill_b_s cap clo src snk i z.1 z.2.1 z.2.2.1 z.2.2.2) 341 0 (total, us, pa, qu)
def g_fill (cap : Nat → Int32) (clo : Nat → Int32) (use : Nat → Int32) (par : Nat → Int32) (que : Nat → Int32) (src : Int32) (snk : Int32) : Int32 × (Nat → Int32) × (Nat → Int32) × (Nat → Int32) := ((g_fill_b_l cap clo src snk 0 (g_fill_a_l use) par que).1, (g_fill_b_l cap clo src snk 0 (g_fill_a_l use) par que).2.1, (g_fill_b_l cap clo src snk 0 (g_fill_a_l use) par que).2.2.1, (g_fill_b_l cap clo src snk 0 (g_fill_a_l use) par que).2.2.2)
theorem ds_X0_fill : dsc yX0_fill 2 := by unfold dsc; decide +kernel
set_option maxHeartbeats 4000000 in
theorem met_X0_fill (l : Launch) (D : va_G) (h : Nat) (q : Nat → Nat) (dZ dB : ClassId) (cap clo use len set par que : Nat → Int32) (src : Int32) (snk : Int32) : Ctd l yX0_fill cX0_fill 6 (some .int) (rmk 3 71) [.ref h, .int src, .int snk] D (tyZ dZ dB) (gW h q dZ dB cap clo use len set par que) (some (.int ((g_fill cap clo use par que src snk).1))) (gW h q dZ dB cap clo ((g_fill cap clo use par que src snk).2.1) len set ((g_fill cap clo use par que src snk).2.2.1) ((g_fill cap clo use par que src snk).2.2.2)) := by
  refine Ctd.ofJi (by decide) (Nat.le_of_ble_eq_true rfl) ?_
  intro p e s m args below meth c A Q C T
  show J p l e (rmk 3 71) s m args below meth c D A 6 0 0 Q (gW h q dZ dB cap clo use len set par que) 0 [(0, .ref h), (1, .int src), (2, .int snk)] []
  refine j_iconst C 0 dX0_fill_0 (by decide) rfl ?_
  refine j_istore_n C [(3, .int 0), (0, .ref h), (1, .int src), (2, .int snk)] rfl (by decide) rfl dX0_fill_1 rfl ?_
  refine j_lv [1, 2, 3, 0] (lv' := [(0, .ref h), (1, .int src), (2, .int snk), (3, .int 0)]) rfl ?_
  refine lpF_rule0 (σ := (Nat → Int32)) (fun i z => g_fill_a_s i z) 17 (fun i z => J p l e (rmk 3 71) s m args below meth c D A 6 0 0 Q (gW h q dZ dB cap clo z len set par que) 2 [(0, .ref h), (1, .int src), (2, .int snk), (3, .int (nI i))] []) (fun z => J p l e (rmk 3 71) s m args below meth c D A 6 0 0 Q (gW h q dZ dB cap clo z len set par que) 21 [(0, .ref h), (1, .int src), (2, .int snk)] []) ?_ ?_ use ?_
  · rintro use E
    show J p l e (rmk 3 71) s m args below meth c D A 6 0 0 Q (gW h q dZ dB cap clo use len set par que) 2 [(0, .ref h), (1, .int src), (2, .int snk), (3, .int (nI 17))] []
    refine j_iload_n C 3 rfl rfl dX0_fill_2 rfl ?_
    refine j_bipush C 17 dX0_fill_3 (by decide) rfl ?_
    refine j_icmp_ge C 21 dX0_fill_5 (by decide) rfl (fun _ => ?_) (fun c_1 => absurd (nI_le (a := 17) (b := 17) (by decide) (by decide)) c_1)
    exact j_lv [0, 1, 2] rfl E
  · rintro i use hi K
    show J p l e (rmk 3 71) s m args below meth c D A 6 0 0 Q (gW h q dZ dB cap clo use len set par que) 2 [(0, .ref h), (1, .int src), (2, .int snk), (3, .int (nI i))] []
    refine j_iload_n C 3 rfl rfl dX0_fill_2 rfl ?_
    refine j_bipush C 17 dX0_fill_3 (by decide) rfl ?_
    refine j_icmp_ge C 21 dX0_fill_5 (by decide) rfl (fun c_2 => absurd c_2 (nI_ge (a := i) (b := 17) hi (by decide))) (fun _ => ?_)
    refine j_aload_n C 0 rfl rfl dX0_fill_8 rfl ?_
    refine j_get0 C 2 rfl (by decide) q27 rfl rfl dX0_fill_9 rfl ?_
    refine j_iload_n C 3 rfl rfl dX0_fill_12 rfl ?_
    refine j_iconst C 0 dX0_fill_13 (by decide) rfl ?_
    refine j_iast (k := i) C 3 (gW h q dZ dB cap clo (upd use i 0) len set par que) rfl rfl hi (by decide) rfl dX0_fill_14 rfl ?_
    refine j_iinc C [(3, .int (nI (i + 1))), (0, .ref h), (1, .int src), (2, .int snk)] 3 rfl (nI_1 _) (by decide) rfl dX0_fill_15 rfl ?_
    refine j_goto C 2 dX0_fill_18 (by decide) ?_
    refine j_lv [1, 2, 3, 0] (lv' := [(0, .ref h), (1, .int src), (2, .int snk), (3, .int (nI (i + 1)))]) rfl ?_
    exact K (upd use i 0) (rfl)
  show J p l e (rmk 3 71) s m args below meth c D A 6 0 0 Q (gW h q dZ dB cap clo (g_fill_a_l use) len set par que) 21 [(0, .ref h), (1, .int src), (2, .int snk)] []
  refine j_iconst C 0 dX0_fill_21 (by decide) rfl ?_
  refine j_istore_n C [(3, .int 0), (0, .ref h), (1, .int src), (2, .int snk)] rfl (by decide) rfl dX0_fill_22 rfl ?_
  refine j_iconst C 0 dX0_fill_23 (by decide) rfl ?_
  refine j_istore C [(4, .int 0), (3, .int 0), (0, .ref h), (1, .int src), (2, .int snk)] (by decide) rfl dX0_fill_24 rfl ?_
  refine j_lv [2, 3, 4, 1, 0] (lv' := [(0, .ref h), (1, .int src), (2, .int snk), (3, .int 0), (4, .int 0)]) rfl ?_
  refine lpB_rule (σ := Int32 × (Nat → Int32) × (Nat → Int32) × (Nat → Int32)) (fun i z => g_fill_b_s cap clo src snk i z.1 z.2.1 z.2.2.1 z.2.2.2) 341 (fun i z => J p l e (rmk 3 71) s m args below meth c D A 6 0 0 Q (gW h q dZ dB cap clo z.2.1 len set z.2.2.1 z.2.2.2) 26 [(0, .ref h), (1, .int src), (2, .int snk), (3, .int z.1), (4, .int (nI i))] []) (fun z => J p l e (rmk 3 71) s m args below meth c D A 6 0 0 Q (gW h q dZ dB cap clo z.2.1 len set z.2.2.1 z.2.2.2) 67 [(0, .ref h), (1, .int src), (2, .int snk), (3, .int z.1)] []) (fun _ _ => True) ?_ ?_ (fun _ _ _ _ _ _ => trivial) 341 0 (0, g_fill_a_l use, par, que) (Nat.zero_add 341) trivial ?_
  · rintro ⟨total, us, pa, qu⟩ - E
    show J p l e (rmk 3 71) s m args below meth c D A 6 0 0 Q (gW h q dZ dB cap clo us len set pa qu) 26 [(0, .ref h), (1, .int src), (2, .int snk), (3, .int total), (4, .int (nI 341))] []
    refine j_iload C 4 rfl dX0_fill_26 rfl ?_
    refine j_sipush C 341 dX0_fill_28 (by decide) rfl ?_
    refine j_icmp_ge C 67 dX0_fill_31 (by decide) rfl (fun _ => ?_) (fun c_3 => absurd (nI_le (a := 341) (b := 341) (by decide) (by decide)) c_3)
    exact j_lv [0, 1, 2, 3] rfl E
  · rintro i ⟨total, us, pa, qu⟩ hi hI K K2
    show J p l e (rmk 3 71) s m args below meth c D A 6 0 0 Q (gW h q dZ dB cap clo us len set pa qu) 26 [(0, .ref h), (1, .int src), (2, .int snk), (3, .int total), (4, .int (nI i))] []
    refine j_iload C 4 rfl dX0_fill_26 rfl ?_
    refine j_sipush C 341 dX0_fill_28 (by decide) rfl ?_
    refine j_icmp_ge C 67 dX0_fill_31 (by decide) rfl (fun c_4 => absurd c_4 (nI_ge (a := i) (b := 341) hi (by decide))) (fun _ => ?_)
    refine j_aload_n C 0 rfl rfl dX0_fill_34 rfl ?_
    refine j_iload_n C 1 rfl rfl dX0_fill_35 rfl ?_
    refine j_iload_n C 2 rfl rfl dX0_fill_36 rfl ?_
    refine j_callV C (met_X0_search l D h q dZ dB cap clo us len set pa qu src snk) q116 q118 qs4 q15 q119 ds_X0_search ⟨rfl, rfl⟩ ⟨Nat.le_of_ble_eq_true rfl, Nat.le_of_ble_eq_true rfl⟩ rfl (rest := []) rfl rfl rfl rfl (Nat.le_of_ble_eq_true rfl) ⟨Nat.zero_le _, Nat.zero_le _⟩ dX0_fill_37 rfl (st' := [.int ((g_search cap clo us pa qu src snk).1)]) rfl ?_
    refine j_istore C [(5, .int ((g_search cap clo us pa qu src snk).1)), (0, .ref h), (1, .int src), (2, .int snk), (3, .int total), (4, .int (nI i))] (by decide) rfl dX0_fill_40 rfl ?_
    refine j_iload C 0 rfl dX0_fill_42 rfl ?_
    refine j_iconst C (-1) dX0_fill_44 (by decide) rfl ?_
    refine j_icmp_ne C 51 dX0_fill_45 (by decide) rfl (fun c_5 => ?_) (fun c_5 => ?_)
    · have hs1 := search_in c_5
      have hs2 := search_chn c_5
      refine j_lve (lv' := [(5, .int (nI (((g_search cap clo us pa qu src snk).1).toNatClampNeg))), (0, .ref h), (1, .int src), (2, .int snk), (3, .int total), (4, .int (nI i))]) (by rw [← hs1.1]) ?_
      refine j_iload_n C 4 rfl rfl dX0_fill_51 rfl ?_
      refine j_aload_n C 1 rfl rfl dX0_fill_52 rfl ?_
      refine j_iload C 0 rfl dX0_fill_53 rfl ?_
      refine j_iload_n C 2 rfl rfl dX0_fill_55 rfl ?_
      refine j_callV C (met_X0_push l D h q dZ dB cap clo us len set ((g_search cap clo us pa qu src snk).2.1) ((g_search cap clo us pa qu src snk).2.2) (((g_search cap clo us pa qu src snk).1).toNatClampNeg) src hs1.2 hs2) q127 q129 qs6 q15 q130 ds_X0_push ⟨rfl, rfl⟩ ⟨Nat.le_of_ble_eq_true rfl, Nat.le_of_ble_eq_true rfl⟩ rfl (rest := [.int total]) rfl rfl rfl rfl (Nat.le_of_ble_eq_true rfl) ⟨Nat.zero_le _, Nat.zero_le _⟩ dX0_fill_56 rfl (st' := [.int ((g_push cap clo us ((g_search cap clo us pa qu src snk).2.1) (((g_search cap clo us pa qu src snk).1).toNatClampNeg) src).1), .int total]) rfl ?_
      refine j_iadd C dX0_fill_59 rfl ?_
      refine j_istore_n C [(3, .int (total + ((g_push cap clo us ((g_search cap clo us pa qu src snk).2.1) (((g_search cap clo us pa qu src snk).1).toNatClampNeg) src).1))), (5, .int (nI (((g_search cap clo us pa qu src snk).1).toNatClampNeg))), (0, .ref h), (1, .int src), (2, .int snk), (4, .int (nI i))] rfl (by decide) rfl dX0_fill_60 rfl ?_
      refine j_iinc C [(4, .int (nI (i + 1))), (3, .int (total + ((g_push cap clo us ((g_search cap clo us pa qu src snk).2.1) (((g_search cap clo us pa qu src snk).1).toNatClampNeg) src).1))), (5, .int (nI (((g_search cap clo us pa qu src snk).1).toNatClampNeg))), (0, .ref h), (1, .int src), (2, .int snk)] 5 rfl (nI_1 _) (by decide) rfl dX0_fill_61 rfl ?_
      refine j_goto C 26 dX0_fill_64 (by decide) ?_
      refine j_lv [3, 4, 5, 1, 0] (lv' := [(0, .ref h), (1, .int src), (2, .int snk), (3, .int (total + ((g_push cap clo us ((g_search cap clo us pa qu src snk).2.1) (((g_search cap clo us pa qu src snk).1).toNatClampNeg) src).1))), (4, .int (nI (i + 1)))]) rfl ?_
      exact K (total + ((g_push cap clo us ((g_search cap clo us pa qu src snk).2.1) (((g_search cap clo us pa qu src snk).1).toNatClampNeg) src).1), (g_push cap clo us ((g_search cap clo us pa qu src snk).2.1) (((g_search cap clo us pa qu src snk).1).toNatClampNeg) src).2, (g_search cap clo us pa qu src snk).2.1, (g_search cap clo us pa qu src snk).2.2) (by show _ = g_fill_b_s cap clo src snk i total us pa qu; unfold g_fill_b_s; rw [if_neg c_5])
    · refine j_goto C 67 dX0_fill_48 (by decide) ?_
      refine j_lv [1, 2, 3, 4] (lv' := [(0, .ref h), (1, .int src), (2, .int snk), (3, .int total)]) rfl ?_
      exact K2 (total, us, (g_search cap clo us pa qu src snk).2.1, (g_search cap clo us pa qu src snk).2.2) (by show _ = g_fill_b_s cap clo src snk i total us pa qu; unfold g_fill_b_s; rw [if_pos c_5])
  show J p l e (rmk 3 71) s m args below meth c D A 6 0 0 Q (gW h q dZ dB cap clo ((g_fill_b_l cap clo src snk 0 (g_fill_a_l use) par que).2.1) len set ((g_fill_b_l cap clo src snk 0 (g_fill_a_l use) par que).2.2.1) ((g_fill_b_l cap clo src snk 0 (g_fill_a_l use) par que).2.2.2)) 67 [(0, .ref h), (1, .int src), (2, .int snk), (3, .int ((g_fill_b_l cap clo src snk 0 (g_fill_a_l use) par que).1))] []
  refine j_iload_n C 3 rfl rfl dX0_fill_67 rfl ?_
  have T := T _ [(0, .ref h), (1, .int src), (2, .int snk), (3, .int ((g_fill_b_l cap clo src snk 0 (g_fill_a_l use) par que).1))] dX0_fill_68
  rw [show g_fill cap clo use par que src snk = ((g_fill_b_l cap clo src snk 0 (g_fill_a_l use) par que).1, (g_fill_b_l cap clo src snk 0 (g_fill_a_l use) par que).2.1, (g_fill_b_l cap clo src snk 0 (g_fill_a_l use) par que).2.2.1, (g_fill_b_l cap clo src snk 0 (g_fill_a_l use) par que).2.2.2) from rfl] at T
  exact T
end
section
set_option maxRecDepth 100000
def g_flow (cap : Nat → Int32) (clo : Nat → Int32) (len : Nat → Int32) (set : Nat → Int32) : Int32 × (Nat → Int32) × (Nat → Int32) := ((g_shortest cap clo len set).1, (g_shortest cap clo len set).2.1, (g_shortest cap clo len set).2.2)
theorem ds_X0_flow : dsc yX0_flow 0 := by unfold dsc; decide +kernel
set_option maxHeartbeats 4000000 in
theorem met_X0_flow (l : Launch) (D : va_G) (h : Nat) (q : Nat → Nat) (dZ dB : ClassId) (cap clo use len set par que : Nat → Int32)  : Ctd l yX0_flow cX0_flow 1 (some .int) (rmk 2 49) [.ref h] D (tyZ dZ dB) (gW h q dZ dB cap clo use len set par que) (some (.int ((g_flow cap clo len set).1))) (gW h q dZ dB cap clo use ((g_flow cap clo len set).2.1) ((g_flow cap clo len set).2.2) par que) := by
  refine Ctd.ofJi (by decide) (Nat.le_of_ble_eq_true rfl) ?_
  intro p e s m args below meth c A Q C T
  show J p l e (rmk 2 49) s m args below meth c D A 1 0 0 Q (gW h q dZ dB cap clo use len set par que) 0 [(0, .ref h)] []
  refine j_aload_n C 0 rfl rfl dX0_flow_0 rfl ?_
  refine j_callV C (met_X0_shortest l D h q dZ dB cap clo use len set par que ) q85 q87 qs0 q15 q88 ds_X0_shortest ⟨rfl, rfl⟩ ⟨Nat.le_of_ble_eq_true rfl, Nat.le_of_ble_eq_true rfl⟩ rfl (rest := []) rfl rfl rfl rfl (Nat.le_of_ble_eq_true rfl) ⟨Nat.zero_le _, Nat.zero_le _⟩ dX0_flow_1 rfl (st' := [.int ((g_shortest cap clo len set).1)]) rfl ?_
  have T := T _ [(0, .ref h)] dX0_flow_4
  rw [show g_flow cap clo len set = ((g_shortest cap clo len set).1, (g_shortest cap clo len set).2.1, (g_shortest cap clo len set).2.2) from rfl] at T
  exact T
def g_firstCut (cap : Nat → Int32) (clo : Nat → Int32) (use : Nat → Int32) (par : Nat → Int32) (que : Nat → Int32) : Int32 × (Nat → Int32) × (Nat → Int32) × (Nat → Int32) := (g_reached cap clo ((g_fill cap clo use par que 1 2048).2.1) 1 1, (g_fill cap clo use par que 1 2048).2.1, (g_fill cap clo use par que 1 2048).2.2.1, (g_fill cap clo use par que 1 2048).2.2.2)
theorem ds_X0_firstCut : dsc yX0_firstCut 0 := by unfold dsc; decide +kernel
set_option maxHeartbeats 4000000 in
theorem met_X0_firstCut (l : Launch) (D : va_G) (h : Nat) (q : Nat → Nat) (dZ dB : ClassId) (cap clo use len set par que : Nat → Int32)  : Ctd l yX0_firstCut cX0_firstCut 1 (some .int) (rmk 4 96) [.ref h] D (tyZ dZ dB) (gW h q dZ dB cap clo use len set par que) (some (.int ((g_firstCut cap clo use par que).1))) (gW h q dZ dB cap clo ((g_firstCut cap clo use par que).2.1) len set ((g_firstCut cap clo use par que).2.2.1) ((g_firstCut cap clo use par que).2.2.2)) := by
  refine Ctd.ofJi (by decide) (Nat.le_of_ble_eq_true rfl) ?_
  intro p e s m args below meth c A Q C T
  show J p l e (rmk 4 96) s m args below meth c D A 1 0 0 Q (gW h q dZ dB cap clo use len set par que) 0 [(0, .ref h)] []
  refine j_aload_n C 0 rfl rfl dX0_firstCut_0 rfl ?_
  refine j_iconst C 1 dX0_firstCut_1 (by decide) rfl ?_
  refine j_sipush C 2048 dX0_firstCut_2 (by decide) rfl ?_
  refine j_callV C (met_X0_fill l D h q dZ dB cap clo use len set par que 1 2048) q112 q114 qs3 q15 q115 ds_X0_fill ⟨rfl, rfl⟩ ⟨Nat.le_of_ble_eq_true rfl, Nat.le_of_ble_eq_true rfl⟩ rfl (rest := []) rfl rfl rfl rfl (Nat.le_of_ble_eq_true rfl) ⟨Nat.zero_le _, Nat.zero_le _⟩ dX0_firstCut_5 rfl (st' := [.int ((g_fill cap clo use par que 1 2048).1)]) rfl ?_
  refine j_pop C rfl dX0_firstCut_8 rfl ?_
  refine j_aload_n C 0 rfl rfl dX0_firstCut_9 rfl ?_
  refine j_iconst C 1 dX0_firstCut_10 (by decide) rfl ?_
  refine j_iconst C 1 dX0_firstCut_11 (by decide) rfl ?_
  refine j_callV C (met_X0_reached l D h q dZ dB cap clo ((g_fill cap clo use par que 1 2048).2.1) len set ((g_fill cap clo use par que 1 2048).2.2.1) ((g_fill cap clo use par que 1 2048).2.2.2) 1 1) q131 q133 qs7 q15 q134 ds_X0_reached ⟨rfl, rfl⟩ ⟨Nat.le_of_ble_eq_true rfl, Nat.le_of_ble_eq_true rfl⟩ rfl (rest := []) rfl rfl rfl rfl (Nat.le_of_ble_eq_true rfl) ⟨Nat.zero_le _, Nat.zero_le _⟩ dX0_firstCut_12 rfl (st' := [.int (g_reached cap clo ((g_fill cap clo use par que 1 2048).2.1) 1 1)]) rfl ?_
  have T := T _ [(0, .ref h)] dX0_firstCut_15
  rw [show g_firstCut cap clo use par que = (g_reached cap clo ((g_fill cap clo use par que 1 2048).2.1) 1 1, (g_fill cap clo use par que 1 2048).2.1, (g_fill cap clo use par que 1 2048).2.2.1, (g_fill cap clo use par que 1 2048).2.2.2) from rfl] at T
  exact T
def g_lastCut (cap : Nat → Int32) (clo : Nat → Int32) (use : Nat → Int32) (par : Nat → Int32) (que : Nat → Int32) : Int32 × (Nat → Int32) × (Nat → Int32) × (Nat → Int32) := (4095 &&& ((g_reached cap clo ((g_fill cap clo use par que 1 2048).2.1) 2048 0) ^^^ (-1)), (g_fill cap clo use par que 1 2048).2.1, (g_fill cap clo use par que 1 2048).2.2.1, (g_fill cap clo use par que 1 2048).2.2.2)
theorem ds_X0_lastCut : dsc yX0_lastCut 0 := by unfold dsc; decide +kernel
set_option maxHeartbeats 4000000 in
theorem met_X0_lastCut (l : Launch) (D : va_G) (h : Nat) (q : Nat → Nat) (dZ dB : ClassId) (cap clo use len set par que : Nat → Int32)  : Ctd l yX0_lastCut cX0_lastCut 1 (some .int) (rmk 4 96) [.ref h] D (tyZ dZ dB) (gW h q dZ dB cap clo use len set par que) (some (.int ((g_lastCut cap clo use par que).1))) (gW h q dZ dB cap clo ((g_lastCut cap clo use par que).2.1) len set ((g_lastCut cap clo use par que).2.2.1) ((g_lastCut cap clo use par que).2.2.2)) := by
  refine Ctd.ofJi (by decide) (Nat.le_of_ble_eq_true rfl) ?_
  intro p e s m args below meth c A Q C T
  show J p l e (rmk 4 96) s m args below meth c D A 1 0 0 Q (gW h q dZ dB cap clo use len set par que) 0 [(0, .ref h)] []
  refine j_aload_n C 0 rfl rfl dX0_lastCut_0 rfl ?_
  refine j_iconst C 1 dX0_lastCut_1 (by decide) rfl ?_
  refine j_sipush C 2048 dX0_lastCut_2 (by decide) rfl ?_
  refine j_callV C (met_X0_fill l D h q dZ dB cap clo use len set par que 1 2048) q112 q114 qs3 q15 q115 ds_X0_fill ⟨rfl, rfl⟩ ⟨Nat.le_of_ble_eq_true rfl, Nat.le_of_ble_eq_true rfl⟩ rfl (rest := []) rfl rfl rfl rfl (Nat.le_of_ble_eq_true rfl) ⟨Nat.zero_le _, Nat.zero_le _⟩ dX0_lastCut_5 rfl (st' := [.int ((g_fill cap clo use par que 1 2048).1)]) rfl ?_
  refine j_pop C rfl dX0_lastCut_8 rfl ?_
  refine j_sipush C 4095 dX0_lastCut_9 (by decide) rfl ?_
  refine j_aload_n C 0 rfl rfl dX0_lastCut_12 rfl ?_
  refine j_sipush C 2048 dX0_lastCut_13 (by decide) rfl ?_
  refine j_iconst C 0 dX0_lastCut_16 (by decide) rfl ?_
  refine j_callV C (met_X0_reached l D h q dZ dB cap clo ((g_fill cap clo use par que 1 2048).2.1) len set ((g_fill cap clo use par que 1 2048).2.2.1) ((g_fill cap clo use par que 1 2048).2.2.2) 2048 0) q131 q133 qs7 q15 q134 ds_X0_reached ⟨rfl, rfl⟩ ⟨Nat.le_of_ble_eq_true rfl, Nat.le_of_ble_eq_true rfl⟩ rfl (rest := [.int 4095]) rfl rfl rfl rfl (Nat.le_of_ble_eq_true rfl) ⟨Nat.zero_le _, Nat.zero_le _⟩ dX0_lastCut_17 rfl (st' := [.int (g_reached cap clo ((g_fill cap clo use par que 1 2048).2.1) 2048 0), .int 4095]) rfl ?_
  refine j_iconst C (-1) dX0_lastCut_20 (by decide) rfl ?_
  refine j_ixor C dX0_lastCut_21 rfl ?_
  refine j_iand C dX0_lastCut_22 rfl ?_
  have T := T _ [(0, .ref h)] dX0_lastCut_23
  rw [show g_lastCut cap clo use par que = (4095 &&& ((g_reached cap clo ((g_fill cap clo use par que 1 2048).2.1) 2048 0) ^^^ (-1)), (g_fill cap clo use par que 1 2048).2.1, (g_fill cap clo use par que 1 2048).2.2.1, (g_fill cap clo use par que 1 2048).2.2.2) from rfl] at T
  exact T
def g_leastWith (cap : Nat → Int32) (clo : Nat → Int32) (use : Nat → Int32) (par : Nat → Int32) (que : Nat → Int32) (k : Int32) : Int32 × (Nat → Int32) × (Nat → Int32) × (Nat → Int32) := (if (g_isCrossing k) = 0 then ((-1), use, par, que) else (if k = 11 then ((-2), use, par, que) else ((g_fill cap clo use par que ((1 : Int32) ||| (1 <<< (k &&& 31))) 2048).1, (g_fill cap clo use par que ((1 : Int32) ||| (1 <<< (k &&& 31))) 2048).2.1, (g_fill cap clo use par que ((1 : Int32) ||| (1 <<< (k &&& 31))) 2048).2.2.1, (g_fill cap clo use par que ((1 : Int32) ||| (1 <<< (k &&& 31))) 2048).2.2.2)))
theorem ds_X0_leastWith : dsc yX0_leastWith 1 := by unfold dsc; decide +kernel
set_option maxHeartbeats 4000000 in
theorem met_X0_leastWith (l : Launch) (D : va_G) (h : Nat) (q : Nat → Nat) (dZ dB : ClassId) (cap clo use len set par que : Nat → Int32) (k : Int32) : Ctd l yX0_leastWith cX0_leastWith 2 (some .int) (rmk 4 96) [.ref h, .int k] D (tyZ dZ dB) (gW h q dZ dB cap clo use len set par que) (some (.int ((g_leastWith cap clo use par que k).1))) (gW h q dZ dB cap clo ((g_leastWith cap clo use par que k).2.1) len set ((g_leastWith cap clo use par que k).2.2.1) ((g_leastWith cap clo use par que k).2.2.2)) := by
  refine Ctd.ofJi (by decide) (Nat.le_of_ble_eq_true rfl) ?_
  intro p e s m args below meth c A Q C T
  show J p l e (rmk 4 96) s m args below meth c D A 2 0 0 Q (gW h q dZ dB cap clo use len set par que) 0 [(0, .ref h), (1, .int k)] []
  refine j_iload_n C 1 rfl rfl dX0_leastWith_0 rfl ?_
  refine j_callS C (met_X0_isCrossing l D (tyZ dZ dB) k) q72 q73 q15 q74 ds_X0_isCrossing ⟨rfl, rfl⟩ ⟨Nat.le_of_ble_eq_true rfl, Nat.le_of_ble_eq_true rfl⟩ rfl (rest := []) rfl (Nat.le_of_ble_eq_true rfl) ⟨Nat.zero_le _, Nat.zero_le _⟩ dX0_leastWith_1 rfl (st' := [.int (g_isCrossing k)]) rfl ?_
  refine j_if_ne C 9 dX0_leastWith_4 (by decide) rfl (fun c_1 => ?_) (fun c_1 => ?_)
  · refine j_iload_n C 1 rfl rfl dX0_leastWith_9 rfl ?_
    refine j_bipush C 11 dX0_leastWith_10 (by decide) rfl ?_
    refine j_icmp_ne C 18 dX0_leastWith_12 (by decide) rfl (fun c_2 => ?_) (fun c_2 => ?_)
    · refine j_aload_n C 0 rfl rfl dX0_leastWith_18 rfl ?_
      refine j_iconst C 1 dX0_leastWith_19 (by decide) rfl ?_
      refine j_iconst C 1 dX0_leastWith_20 (by decide) rfl ?_
      refine j_iload_n C 1 rfl rfl dX0_leastWith_21 rfl ?_
      refine j_ishl C dX0_leastWith_22 rfl ?_
      refine j_ior C dX0_leastWith_23 rfl ?_
      refine j_sipush C 2048 dX0_leastWith_24 (by decide) rfl ?_
      refine j_callV C (met_X0_fill l D h q dZ dB cap clo use len set par que ((1 : Int32) ||| (1 <<< (k &&& 31))) 2048) q112 q114 qs3 q15 q115 ds_X0_fill ⟨rfl, rfl⟩ ⟨Nat.le_of_ble_eq_true rfl, Nat.le_of_ble_eq_true rfl⟩ rfl (rest := []) rfl rfl rfl rfl (Nat.le_of_ble_eq_true rfl) ⟨Nat.zero_le _, Nat.zero_le _⟩ dX0_leastWith_27 rfl (st' := [.int ((g_fill cap clo use par que ((1 : Int32) ||| (1 <<< (k &&& 31))) 2048).1)]) rfl ?_
      have T := T _ [(0, .ref h), (1, .int k)] dX0_leastWith_30
      rw [show g_leastWith cap clo use par que k = ((g_fill cap clo use par que ((1 : Int32) ||| (1 <<< (k &&& 31))) 2048).1, (g_fill cap clo use par que ((1 : Int32) ||| (1 <<< (k &&& 31))) 2048).2.1, (g_fill cap clo use par que ((1 : Int32) ||| (1 <<< (k &&& 31))) 2048).2.2.1, (g_fill cap clo use par que ((1 : Int32) ||| (1 <<< (k &&& 31))) 2048).2.2.2) from by unfold g_leastWith; rw [if_neg c_1]; rw [if_neg c_2]] at T
      exact T
    · refine j_bipush C (-2) dX0_leastWith_15 (by decide) rfl ?_
      have T := T _ [(0, .ref h), (1, .int k)] dX0_leastWith_17
      rw [show g_leastWith cap clo use par que k = ((-2), use, par, que) from by unfold g_leastWith; rw [if_neg c_1]; rw [if_pos c_2]] at T
      exact T
  · refine j_iconst C (-1) dX0_leastWith_7 (by decide) rfl ?_
    have T := T _ [(0, .ref h), (1, .int k)] dX0_leastWith_8
    rw [show g_leastWith cap clo use par que k = ((-1), use, par, que) from by unfold g_leastWith; rw [if_pos c_1]] at T
    exact T
def g_leastWithout (cap : Nat → Int32) (clo : Nat → Int32) (use : Nat → Int32) (par : Nat → Int32) (que : Nat → Int32) (k : Int32) : Int32 × (Nat → Int32) × (Nat → Int32) × (Nat → Int32) := (if (g_isCrossing k) = 0 then ((-1), use, par, que) else (if k = 0 then ((-2), use, par, que) else ((g_fill cap clo use par que 1 ((2048 : Int32) ||| (1 <<< (k &&& 31)))).1, (g_fill cap clo use par que 1 ((2048 : Int32) ||| (1 <<< (k &&& 31)))).2.1, (g_fill cap clo use par que 1 ((2048 : Int32) ||| (1 <<< (k &&& 31)))).2.2.1, (g_fill cap clo use par que 1 ((2048 : Int32) ||| (1 <<< (k &&& 31)))).2.2.2)))
theorem ds_X0_leastWithout : dsc yX0_leastWithout 1 := by unfold dsc; decide +kernel
set_option maxHeartbeats 4000000 in
theorem met_X0_leastWithout (l : Launch) (D : va_G) (h : Nat) (q : Nat → Nat) (dZ dB : ClassId) (cap clo use len set par que : Nat → Int32) (k : Int32) : Ctd l yX0_leastWithout cX0_leastWithout 2 (some .int) (rmk 4 96) [.ref h, .int k] D (tyZ dZ dB) (gW h q dZ dB cap clo use len set par que) (some (.int ((g_leastWithout cap clo use par que k).1))) (gW h q dZ dB cap clo ((g_leastWithout cap clo use par que k).2.1) len set ((g_leastWithout cap clo use par que k).2.2.1) ((g_leastWithout cap clo use par que k).2.2.2)) := by
  refine Ctd.ofJi (by decide) (Nat.le_of_ble_eq_true rfl) ?_
  intro p e s m args below meth c A Q C T
  show J p l e (rmk 4 96) s m args below meth c D A 2 0 0 Q (gW h q dZ dB cap clo use len set par que) 0 [(0, .ref h), (1, .int k)] []
  refine j_iload_n C 1 rfl rfl dX0_leastWithout_0 rfl ?_
  refine j_callS C (met_X0_isCrossing l D (tyZ dZ dB) k) q72 q73 q15 q74 ds_X0_isCrossing ⟨rfl, rfl⟩ ⟨Nat.le_of_ble_eq_true rfl, Nat.le_of_ble_eq_true rfl⟩ rfl (rest := []) rfl (Nat.le_of_ble_eq_true rfl) ⟨Nat.zero_le _, Nat.zero_le _⟩ dX0_leastWithout_1 rfl (st' := [.int (g_isCrossing k)]) rfl ?_
  refine j_if_ne C 9 dX0_leastWithout_4 (by decide) rfl (fun c_1 => ?_) (fun c_1 => ?_)
  · refine j_iload_n C 1 rfl rfl dX0_leastWithout_9 rfl ?_
    refine j_if_ne C 16 dX0_leastWithout_10 (by decide) rfl (fun c_2 => ?_) (fun c_2 => ?_)
    · refine j_aload_n C 0 rfl rfl dX0_leastWithout_16 rfl ?_
      refine j_iconst C 1 dX0_leastWithout_17 (by decide) rfl ?_
      refine j_sipush C 2048 dX0_leastWithout_18 (by decide) rfl ?_
      refine j_iconst C 1 dX0_leastWithout_21 (by decide) rfl ?_
      refine j_iload_n C 1 rfl rfl dX0_leastWithout_22 rfl ?_
      refine j_ishl C dX0_leastWithout_23 rfl ?_
      refine j_ior C dX0_leastWithout_24 rfl ?_
      refine j_callV C (met_X0_fill l D h q dZ dB cap clo use len set par que 1 ((2048 : Int32) ||| (1 <<< (k &&& 31)))) q112 q114 qs3 q15 q115 ds_X0_fill ⟨rfl, rfl⟩ ⟨Nat.le_of_ble_eq_true rfl, Nat.le_of_ble_eq_true rfl⟩ rfl (rest := []) rfl rfl rfl rfl (Nat.le_of_ble_eq_true rfl) ⟨Nat.zero_le _, Nat.zero_le _⟩ dX0_leastWithout_25 rfl (st' := [.int ((g_fill cap clo use par que 1 ((2048 : Int32) ||| (1 <<< (k &&& 31)))).1)]) rfl ?_
      have T := T _ [(0, .ref h), (1, .int k)] dX0_leastWithout_28
      rw [show g_leastWithout cap clo use par que k = ((g_fill cap clo use par que 1 ((2048 : Int32) ||| (1 <<< (k &&& 31)))).1, (g_fill cap clo use par que 1 ((2048 : Int32) ||| (1 <<< (k &&& 31)))).2.1, (g_fill cap clo use par que 1 ((2048 : Int32) ||| (1 <<< (k &&& 31)))).2.2.1, (g_fill cap clo use par que 1 ((2048 : Int32) ||| (1 <<< (k &&& 31)))).2.2.2) from by unfold g_leastWithout; rw [if_neg c_1]; rw [if_neg c_2]] at T
      exact T
    · refine j_bipush C (-2) dX0_leastWithout_13 (by decide) rfl ?_
      have T := T _ [(0, .ref h), (1, .int k)] dX0_leastWithout_15
      rw [show g_leastWithout cap clo use par que k = ((-2), use, par, que) from by unfold g_leastWithout; rw [if_neg c_1]; rw [if_pos c_2]] at T
      exact T
  · refine j_iconst C (-1) dX0_leastWithout_7 (by decide) rfl ?_
    have T := T _ [(0, .ref h), (1, .int k)] dX0_leastWithout_8
    rw [show g_leastWithout cap clo use par que k = ((-1), use, par, que) from by unfold g_leastWithout; rw [if_pos c_1]] at T
    exact T
def g_loss (cap : Nat → Int32) (clo : Nat → Int32) (len : Nat → Int32) (set : Nat → Int32) (street : Int32) : Int32 × (Nat → Int32) × (Nat → Int32) × (Nat → Int32) := (if (g_isStreet street) = 0 then ((-1), clo, len, set) else (((g_shortest cap clo len set).1) - ((g_shortest cap (upd clo street.toNatClampNeg 1) ((g_shortest cap clo len set).2.1) ((g_shortest cap clo len set).2.2)).1), upd (upd clo street.toNatClampNeg 1) street.toNatClampNeg (clo street.toNatClampNeg), (g_shortest cap (upd clo street.toNatClampNeg 1) ((g_shortest cap clo len set).2.1) ((g_shortest cap clo len set).2.2)).2.1, (g_shortest cap (upd clo street.toNatClampNeg 1) ((g_shortest cap clo len set).2.1) ((g_shortest cap clo len set).2.2)).2.2))
theorem ds_X0_loss : dsc yX0_loss 1 := by unfold dsc; decide +kernel
set_option maxHeartbeats 4000000 in
theorem met_X0_loss (l : Launch) (D : va_G) (h : Nat) (q : Nat → Nat) (dZ dB : ClassId) (cap clo use len set par que : Nat → Int32) (street : Int32) (hclo : ∀ k, k < 17 → vp_nar .boolean (clo k) = clo k) : Ctd l yX0_loss cX0_loss 5 (some .int) (rmk 2 49) [.ref h, .int street] D (tyZ dZ dB) (gW h q dZ dB cap clo use len set par que) (some (.int ((g_loss cap clo len set street).1))) (gW h q dZ dB cap ((g_loss cap clo len set street).2.1) use ((g_loss cap clo len set street).2.2.1) ((g_loss cap clo len set street).2.2.2) par que) := by
  refine Ctd.ofJi (by decide) (Nat.le_of_ble_eq_true rfl) ?_
  intro p e s m args below meth c A Q C T
  show J p l e (rmk 2 49) s m args below meth c D A 5 0 0 Q (gW h q dZ dB cap clo use len set par que) 0 [(0, .ref h), (1, .int street)] []
  refine j_iload_n C 1 rfl rfl dX0_loss_0 rfl ?_
  refine j_callS C (met_X0_isStreet l D (tyZ dZ dB) street) q53 q54 q15 q55 ds_X0_isStreet ⟨rfl, rfl⟩ ⟨Nat.le_of_ble_eq_true rfl, Nat.le_of_ble_eq_true rfl⟩ rfl (rest := []) rfl (Nat.le_of_ble_eq_true rfl) ⟨Nat.zero_le _, Nat.zero_le _⟩ dX0_loss_1 rfl (st' := [.int (g_isStreet street)]) rfl ?_
  refine j_if_ne C 9 dX0_loss_4 (by decide) rfl (fun c_1 => ?_) (fun c_1 => ?_)
  · have hstreet1 := isStreet_in c_1
    refine j_lve (lv' := [(0, .ref h), (1, .int (nI street.toNatClampNeg))]) (by rw [← hstreet1.1]) ?_
    refine j_aload_n C 0 rfl rfl dX0_loss_9 rfl ?_
    refine j_callV C (met_X0_shortest l D h q dZ dB cap clo use len set par que ) q85 q87 qs0 q15 q88 ds_X0_shortest ⟨rfl, rfl⟩ ⟨Nat.le_of_ble_eq_true rfl, Nat.le_of_ble_eq_true rfl⟩ rfl (rest := []) rfl rfl rfl rfl (Nat.le_of_ble_eq_true rfl) ⟨Nat.zero_le _, Nat.zero_le _⟩ dX0_loss_10 rfl (st' := [.int ((g_shortest cap clo len set).1)]) rfl ?_
    refine j_istore_n C [(2, .int ((g_shortest cap clo len set).1)), (0, .ref h), (1, .int (nI street.toNatClampNeg))] rfl (by decide) rfl dX0_loss_13 rfl ?_
    refine j_aload_n C 1 rfl rfl dX0_loss_14 rfl ?_
    refine j_get0 C 1 rfl (by decide) q26 rfl rfl dX0_loss_15 rfl ?_
    refine j_iload_n C 2 rfl rfl dX0_loss_18 rfl ?_
    refine j_zald (k := street.toNatClampNeg) C 2 rfl rfl hstreet1.2 (by decide) dX0_loss_19 rfl ?_
    refine j_istore_n C [(3, .int (clo street.toNatClampNeg)), (2, .int ((g_shortest cap clo len set).1)), (0, .ref h), (1, .int (nI street.toNatClampNeg))] rfl (by decide) rfl dX0_loss_20 rfl ?_
    refine j_aload_n C 2 rfl rfl dX0_loss_21 rfl ?_
    refine j_get0 C 1 rfl (by decide) q26 rfl rfl dX0_loss_22 rfl ?_
    refine j_iload_n C 3 rfl rfl dX0_loss_25 rfl ?_
    refine j_iconst C 1 dX0_loss_26 (by decide) rfl ?_
    refine j_zast (k := street.toNatClampNeg) C 2 (gW h q dZ dB cap (upd clo street.toNatClampNeg 1) use ((g_shortest cap clo len set).2.1) ((g_shortest cap clo len set).2.2) par que) rfl rfl hstreet1.2 (by decide) (by decide) rfl dX0_loss_27 rfl ?_
    refine j_aload_n C 2 rfl rfl dX0_loss_28 rfl ?_
    refine j_callV C (met_X0_shortest l D h q dZ dB cap (upd clo street.toNatClampNeg 1) use ((g_shortest cap clo len set).2.1) ((g_shortest cap clo len set).2.2) par que ) q85 q87 qs0 q15 q88 ds_X0_shortest ⟨rfl, rfl⟩ ⟨Nat.le_of_ble_eq_true rfl, Nat.le_of_ble_eq_true rfl⟩ rfl (rest := []) rfl rfl rfl rfl (Nat.le_of_ble_eq_true rfl) ⟨Nat.zero_le _, Nat.zero_le _⟩ dX0_loss_29 rfl (st' := [.int ((g_shortest cap (upd clo street.toNatClampNeg 1) ((g_shortest cap clo len set).2.1) ((g_shortest cap clo len set).2.2)).1)]) rfl ?_
    refine j_istore C [(4, .int ((g_shortest cap (upd clo street.toNatClampNeg 1) ((g_shortest cap clo len set).2.1) ((g_shortest cap clo len set).2.2)).1)), (3, .int (clo street.toNatClampNeg)), (2, .int ((g_shortest cap clo len set).1)), (0, .ref h), (1, .int (nI street.toNatClampNeg))] (by decide) rfl dX0_loss_32 rfl ?_
    refine j_aload_n C 3 rfl rfl dX0_loss_34 rfl ?_
    refine j_get0 C 1 rfl (by decide) q26 rfl rfl dX0_loss_35 rfl ?_
    refine j_iload_n C 4 rfl rfl dX0_loss_38 rfl ?_
    refine j_iload_n C 1 rfl rfl dX0_loss_39 rfl ?_
    refine j_zast (k := street.toNatClampNeg) C 2 (gW h q dZ dB cap (upd (upd clo street.toNatClampNeg 1) street.toNatClampNeg (clo street.toNatClampNeg)) use ((g_shortest cap (upd clo street.toNatClampNeg 1) ((g_shortest cap clo len set).2.1) ((g_shortest cap clo len set).2.2)).2.1) ((g_shortest cap (upd clo street.toNatClampNeg 1) ((g_shortest cap clo len set).2.1) ((g_shortest cap clo len set).2.2)).2.2) par que) rfl rfl hstreet1.2 (by decide) (hclo _ hstreet1.2) rfl dX0_loss_40 rfl ?_
    refine j_iload_n C 2 rfl rfl dX0_loss_41 rfl ?_
    refine j_iload C 0 rfl dX0_loss_42 rfl ?_
    refine j_isub C dX0_loss_44 rfl ?_
    have T := T _ [(4, .int ((g_shortest cap (upd clo street.toNatClampNeg 1) ((g_shortest cap clo len set).2.1) ((g_shortest cap clo len set).2.2)).1)), (3, .int (clo street.toNatClampNeg)), (2, .int ((g_shortest cap clo len set).1)), (0, .ref h), (1, .int (nI street.toNatClampNeg))] dX0_loss_45
    rw [show g_loss cap clo len set street = (((g_shortest cap clo len set).1) - ((g_shortest cap (upd clo street.toNatClampNeg 1) ((g_shortest cap clo len set).2.1) ((g_shortest cap clo len set).2.2)).1), upd (upd clo street.toNatClampNeg 1) street.toNatClampNeg (clo street.toNatClampNeg), (g_shortest cap (upd clo street.toNatClampNeg 1) ((g_shortest cap clo len set).2.1) ((g_shortest cap clo len set).2.2)).2.1, (g_shortest cap (upd clo street.toNatClampNeg 1) ((g_shortest cap clo len set).2.1) ((g_shortest cap clo len set).2.2)).2.2) from by unfold g_loss; rw [if_neg c_1]] at T
    exact T
  · refine j_iconst C (-1) dX0_loss_7 (by decide) rfl ?_
    have T := T _ [(0, .ref h), (1, .int street)] dX0_loss_8
    rw [show g_loss cap clo len set street = ((-1), clo, len, set) from by unfold g_loss; rw [if_pos c_1]] at T
    exact T
def g_gain (cap : Nat → Int32) (clo : Nat → Int32) (len : Nat → Int32) (set : Nat → Int32) (street : Int32) (amt : Int32) : Int32 × (Nat → Int32) × (Nat → Int32) × (Nat → Int32) := (if (g_isStreet street) = 0 then ((-1), cap, len, set) else (if amt < 0 then ((-2), cap, len, set) else (if amt ≤ 100 then (((g_shortest (upd cap street.toNatClampNeg ((cap street.toNatClampNeg) + amt)) clo ((g_shortest cap clo len set).2.1) ((g_shortest cap clo len set).2.2)).1) - ((g_shortest cap clo len set).1), upd (upd cap street.toNatClampNeg ((cap street.toNatClampNeg) + amt)) street.toNatClampNeg (((upd cap street.toNatClampNeg ((cap street.toNatClampNeg) + amt)) street.toNatClampNeg) - amt), (g_shortest (upd cap street.toNatClampNeg ((cap street.toNatClampNeg) + amt)) clo ((g_shortest cap clo len set).2.1) ((g_shortest cap clo len set).2.2)).2.1, (g_shortest (upd cap street.toNatClampNeg ((cap street.toNatClampNeg) + amt)) clo ((g_shortest cap clo len set).2.1) ((g_shortest cap clo len set).2.2)).2.2) else ((-2), cap, len, set))))
theorem ds_X0_gain : dsc yX0_gain 2 := by unfold dsc; decide +kernel
set_option maxHeartbeats 4000000 in
theorem met_X0_gain (l : Launch) (D : va_G) (h : Nat) (q : Nat → Nat) (dZ dB : ClassId) (cap clo use len set par que : Nat → Int32) (street : Int32) (amt : Int32) : Ctd l yX0_gain cX0_gain 5 (some .int) (rmk 2 49) [.ref h, .int street, .int amt] D (tyZ dZ dB) (gW h q dZ dB cap clo use len set par que) (some (.int ((g_gain cap clo len set street amt).1))) (gW h q dZ dB ((g_gain cap clo len set street amt).2.1) clo use ((g_gain cap clo len set street amt).2.2.1) ((g_gain cap clo len set street amt).2.2.2) par que) := by
  refine Ctd.ofJi (by decide) (Nat.le_of_ble_eq_true rfl) ?_
  intro p e s m args below meth c A Q C T
  show J p l e (rmk 2 49) s m args below meth c D A 5 0 0 Q (gW h q dZ dB cap clo use len set par que) 0 [(0, .ref h), (1, .int street), (2, .int amt)] []
  refine j_iload_n C 1 rfl rfl dX0_gain_0 rfl ?_
  refine j_callS C (met_X0_isStreet l D (tyZ dZ dB) street) q53 q54 q15 q55 ds_X0_isStreet ⟨rfl, rfl⟩ ⟨Nat.le_of_ble_eq_true rfl, Nat.le_of_ble_eq_true rfl⟩ rfl (rest := []) rfl (Nat.le_of_ble_eq_true rfl) ⟨Nat.zero_le _, Nat.zero_le _⟩ dX0_gain_1 rfl (st' := [.int (g_isStreet street)]) rfl ?_
  refine j_if_ne C 9 dX0_gain_4 (by decide) rfl (fun c_1 => ?_) (fun c_1 => ?_)
  · have hstreet1 := isStreet_in c_1
    refine j_lve (lv' := [(0, .ref h), (1, .int (nI street.toNatClampNeg)), (2, .int amt)]) (by rw [← hstreet1.1]) ?_
    refine j_iload_n C 2 rfl rfl dX0_gain_9 rfl ?_
    refine j_if_lt C 19 dX0_gain_10 (by decide) rfl (fun c_2 => ?_) (fun c_2 => ?_)
    · refine j_bipush C (-2) dX0_gain_19 (by decide) rfl ?_
      have T := T _ [(0, .ref h), (1, .int (nI street.toNatClampNeg)), (2, .int amt)] dX0_gain_21
      rw [show g_gain cap clo len set street amt = ((-2), cap, len, set) from by unfold g_gain; rw [if_neg c_1]; rw [if_pos c_2]] at T
      exact T
    · refine j_iload_n C 2 rfl rfl dX0_gain_13 rfl ?_
      refine j_bipush C 100 dX0_gain_14 (by decide) rfl ?_
      refine j_icmp_le C 22 dX0_gain_16 (by decide) rfl (fun c_3 => ?_) (fun c_3 => ?_)
      · refine j_aload_n C 0 rfl rfl dX0_gain_22 rfl ?_
        refine j_callV C (met_X0_shortest l D h q dZ dB cap clo use len set par que ) q85 q87 qs0 q15 q88 ds_X0_shortest ⟨rfl, rfl⟩ ⟨Nat.le_of_ble_eq_true rfl, Nat.le_of_ble_eq_true rfl⟩ rfl (rest := []) rfl rfl rfl rfl (Nat.le_of_ble_eq_true rfl) ⟨Nat.zero_le _, Nat.zero_le _⟩ dX0_gain_23 rfl (st' := [.int ((g_shortest cap clo len set).1)]) rfl ?_
        refine j_istore_n C [(3, .int ((g_shortest cap clo len set).1)), (0, .ref h), (1, .int (nI street.toNatClampNeg)), (2, .int amt)] rfl (by decide) rfl dX0_gain_26 rfl ?_
        refine j_aload_n C 1 rfl rfl dX0_gain_27 rfl ?_
        refine j_get0 C 0 rfl (by decide) q25 rfl rfl dX0_gain_28 rfl ?_
        refine j_iload_n C 2 rfl rfl dX0_gain_31 rfl ?_
        refine j_dup2 C rfl rfl dX0_gain_32 rfl ?_
        refine j_iald (k := street.toNatClampNeg) C 1 rfl rfl hstreet1.2 (by decide) dX0_gain_33 rfl ?_
        refine j_iload_n C 3 rfl rfl dX0_gain_34 rfl ?_
        refine j_iadd C dX0_gain_35 rfl ?_
        refine j_iast (k := street.toNatClampNeg) C 1 (gW h q dZ dB (upd cap street.toNatClampNeg ((cap street.toNatClampNeg) + amt)) clo use ((g_shortest cap clo len set).2.1) ((g_shortest cap clo len set).2.2) par que) rfl rfl hstreet1.2 (by decide) rfl dX0_gain_36 rfl ?_
        refine j_aload_n C 1 rfl rfl dX0_gain_37 rfl ?_
        refine j_callV C (met_X0_shortest l D h q dZ dB (upd cap street.toNatClampNeg ((cap street.toNatClampNeg) + amt)) clo use ((g_shortest cap clo len set).2.1) ((g_shortest cap clo len set).2.2) par que ) q85 q87 qs0 q15 q88 ds_X0_shortest ⟨rfl, rfl⟩ ⟨Nat.le_of_ble_eq_true rfl, Nat.le_of_ble_eq_true rfl⟩ rfl (rest := []) rfl rfl rfl rfl (Nat.le_of_ble_eq_true rfl) ⟨Nat.zero_le _, Nat.zero_le _⟩ dX0_gain_38 rfl (st' := [.int ((g_shortest (upd cap street.toNatClampNeg ((cap street.toNatClampNeg) + amt)) clo ((g_shortest cap clo len set).2.1) ((g_shortest cap clo len set).2.2)).1)]) rfl ?_
        refine j_istore C [(4, .int ((g_shortest (upd cap street.toNatClampNeg ((cap street.toNatClampNeg) + amt)) clo ((g_shortest cap clo len set).2.1) ((g_shortest cap clo len set).2.2)).1)), (3, .int ((g_shortest cap clo len set).1)), (0, .ref h), (1, .int (nI street.toNatClampNeg)), (2, .int amt)] (by decide) rfl dX0_gain_41 rfl ?_
        refine j_aload_n C 2 rfl rfl dX0_gain_43 rfl ?_
        refine j_get0 C 0 rfl (by decide) q25 rfl rfl dX0_gain_44 rfl ?_
        refine j_iload_n C 3 rfl rfl dX0_gain_47 rfl ?_
        refine j_dup2 C rfl rfl dX0_gain_48 rfl ?_
        refine j_iald (k := street.toNatClampNeg) C 1 rfl rfl hstreet1.2 (by decide) dX0_gain_49 rfl ?_
        refine j_iload_n C 4 rfl rfl dX0_gain_50 rfl ?_
        refine j_isub C dX0_gain_51 rfl ?_
        refine j_iast (k := street.toNatClampNeg) C 1 (gW h q dZ dB (upd (upd cap street.toNatClampNeg ((cap street.toNatClampNeg) + amt)) street.toNatClampNeg (((upd cap street.toNatClampNeg ((cap street.toNatClampNeg) + amt)) street.toNatClampNeg) - amt)) clo use ((g_shortest (upd cap street.toNatClampNeg ((cap street.toNatClampNeg) + amt)) clo ((g_shortest cap clo len set).2.1) ((g_shortest cap clo len set).2.2)).2.1) ((g_shortest (upd cap street.toNatClampNeg ((cap street.toNatClampNeg) + amt)) clo ((g_shortest cap clo len set).2.1) ((g_shortest cap clo len set).2.2)).2.2) par que) rfl rfl hstreet1.2 (by decide) rfl dX0_gain_52 rfl ?_
        refine j_iload C 0 rfl dX0_gain_53 rfl ?_
        refine j_iload_n C 1 rfl rfl dX0_gain_55 rfl ?_
        refine j_isub C dX0_gain_56 rfl ?_
        have T := T _ [(4, .int ((g_shortest (upd cap street.toNatClampNeg ((cap street.toNatClampNeg) + amt)) clo ((g_shortest cap clo len set).2.1) ((g_shortest cap clo len set).2.2)).1)), (3, .int ((g_shortest cap clo len set).1)), (0, .ref h), (1, .int (nI street.toNatClampNeg)), (2, .int amt)] dX0_gain_57
        rw [show g_gain cap clo len set street amt = (((g_shortest (upd cap street.toNatClampNeg ((cap street.toNatClampNeg) + amt)) clo ((g_shortest cap clo len set).2.1) ((g_shortest cap clo len set).2.2)).1) - ((g_shortest cap clo len set).1), upd (upd cap street.toNatClampNeg ((cap street.toNatClampNeg) + amt)) street.toNatClampNeg (((upd cap street.toNatClampNeg ((cap street.toNatClampNeg) + amt)) street.toNatClampNeg) - amt), (g_shortest (upd cap street.toNatClampNeg ((cap street.toNatClampNeg) + amt)) clo ((g_shortest cap clo len set).2.1) ((g_shortest cap clo len set).2.2)).2.1, (g_shortest (upd cap street.toNatClampNeg ((cap street.toNatClampNeg) + amt)) clo ((g_shortest cap clo len set).2.1) ((g_shortest cap clo len set).2.2)).2.2) from by unfold g_gain; rw [if_neg c_1]; rw [if_neg c_2]; rw [if_pos c_3]] at T
        exact T
      · refine j_bipush C (-2) dX0_gain_19 (by decide) rfl ?_
        have T := T _ [(0, .ref h), (1, .int (nI street.toNatClampNeg)), (2, .int amt)] dX0_gain_21
        rw [show g_gain cap clo len set street amt = ((-2), cap, len, set) from by unfold g_gain; rw [if_neg c_1]; rw [if_neg c_2]; rw [if_neg c_3]] at T
        exact T
  · refine j_iconst C (-1) dX0_gain_7 (by decide) rfl ?_
    have T := T _ [(0, .ref h), (1, .int street), (2, .int amt)] dX0_gain_8
    rw [show g_gain cap clo len set street amt = ((-1), cap, len, set) from by unfold g_gain; rw [if_pos c_1]] at T
    exact T
def g_cutStreets_a_s (cap : Nat → Int32) (clo : Nat → Int32) (cut : Int32) (i : Nat) (sum : Int32) : Int32 := (if (((cut >>> ((nI (fe i)) &&& 31)) ^^^ (cut >>> ((nI (se i)) &&& 31))) &&& 1) = 1 then (if (g_room cap clo i) ≤ 0 then sum + 0 else sum + 1) else sum + 0)
def g_cutStreets_a_l (cap : Nat → Int32) (clo : Nat → Int32) (cut : Int32) (sum : Int32) : Int32 := lpF (fun i z => g_cutStreets_a_s cap clo cut i z) 17 0 sum
def g_cutStreets (cap : Nat → Int32) (clo : Nat → Int32) (use : Nat → Int32) (par : Nat → Int32) (que : Nat → Int32) : Int32 × (Nat → Int32) × (Nat → Int32) × (Nat → Int32) := (g_cutStreets_a_l cap clo ((g_firstCut cap clo use par que).1) 0, (g_firstCut cap clo use par que).2.1, (g_firstCut cap clo use par que).2.2.1, (g_firstCut cap clo use par que).2.2.2)
theorem ds_X0_cutStreets : dsc yX0_cutStreets 0 := by unfold dsc; decide +kernel
set_option maxHeartbeats 4000000 in
theorem met_X0_cutStreets (l : Launch) (D : va_G) (h : Nat) (q : Nat → Nat) (dZ dB : ClassId) (cap clo use len set par que : Nat → Int32)  : Ctd l yX0_cutStreets cX0_cutStreets 5 (some .int) (rmk 5 116) [.ref h] D (tyZ dZ dB) (gW h q dZ dB cap clo use len set par que) (some (.int ((g_cutStreets cap clo use par que).1))) (gW h q dZ dB cap clo ((g_cutStreets cap clo use par que).2.1) len set ((g_cutStreets cap clo use par que).2.2.1) ((g_cutStreets cap clo use par que).2.2.2)) := by
  refine Ctd.ofJi (by decide) (Nat.le_of_ble_eq_true rfl) ?_
  intro p e s m args below meth c A Q C T
  show J p l e (rmk 5 116) s m args below meth c D A 5 0 0 Q (gW h q dZ dB cap clo use len set par que) 0 [(0, .ref h)] []
  refine j_aload_n C 0 rfl rfl dX0_cutStreets_0 rfl ?_
  refine j_callV C (met_X0_firstCut l D h q dZ dB cap clo use len set par que ) q163 q109 q110 q15 q111 ds_X0_firstCut ⟨rfl, rfl⟩ ⟨Nat.le_of_ble_eq_true rfl, Nat.le_of_ble_eq_true rfl⟩ rfl (rest := []) rfl rfl rfl rfl (Nat.le_of_ble_eq_true rfl) ⟨Nat.zero_le _, Nat.zero_le _⟩ dX0_cutStreets_1 rfl (st' := [.int ((g_firstCut cap clo use par que).1)]) rfl ?_
  refine j_istore_n C [(1, .int ((g_firstCut cap clo use par que).1)), (0, .ref h)] rfl (by decide) rfl dX0_cutStreets_4 rfl ?_
  refine j_iconst C 0 dX0_cutStreets_5 (by decide) rfl ?_
  refine j_istore_n C [(2, .int 0), (1, .int ((g_firstCut cap clo use par que).1)), (0, .ref h)] rfl (by decide) rfl dX0_cutStreets_6 rfl ?_
  refine j_iconst C 0 dX0_cutStreets_7 (by decide) rfl ?_
  refine j_istore_n C [(3, .int 0), (2, .int 0), (1, .int ((g_firstCut cap clo use par que).1)), (0, .ref h)] rfl (by decide) rfl dX0_cutStreets_8 rfl ?_
  refine j_lv [3, 2, 1, 0] (lv' := [(0, .ref h), (1, .int ((g_firstCut cap clo use par que).1)), (2, .int 0), (3, .int 0)]) rfl ?_
  refine lpF_rule0 (σ := Int32) (fun i z => g_cutStreets_a_s cap clo ((g_firstCut cap clo use par que).1) i z) 17 (fun i z => J p l e (rmk 5 116) s m args below meth c D A 5 0 0 Q (gW h q dZ dB cap clo ((g_firstCut cap clo use par que).2.1) len set ((g_firstCut cap clo use par que).2.2.1) ((g_firstCut cap clo use par que).2.2.2)) 9 [(0, .ref h), (1, .int ((g_firstCut cap clo use par que).1)), (2, .int z), (3, .int (nI i))] []) (fun z => J p l e (rmk 5 116) s m args below meth c D A 5 0 0 Q (gW h q dZ dB cap clo ((g_firstCut cap clo use par que).2.1) len set ((g_firstCut cap clo use par que).2.2.1) ((g_firstCut cap clo use par que).2.2.2)) 60 [(0, .ref h), (1, .int ((g_firstCut cap clo use par que).1)), (2, .int z)] []) ?_ ?_ 0 ?_
  · rintro sum E
    show J p l e (rmk 5 116) s m args below meth c D A 5 0 0 Q (gW h q dZ dB cap clo ((g_firstCut cap clo use par que).2.1) len set ((g_firstCut cap clo use par que).2.2.1) ((g_firstCut cap clo use par que).2.2.2)) 9 [(0, .ref h), (1, .int ((g_firstCut cap clo use par que).1)), (2, .int sum), (3, .int (nI 17))] []
    refine j_iload_n C 3 rfl rfl dX0_cutStreets_9 rfl ?_
    refine j_bipush C 17 dX0_cutStreets_10 (by decide) rfl ?_
    refine j_icmp_ge C 60 dX0_cutStreets_12 (by decide) rfl (fun _ => ?_) (fun c_1 => absurd (nI_le (a := 17) (b := 17) (by decide) (by decide)) c_1)
    exact j_lv [0, 1, 2] rfl E
  · rintro i sum hi K
    show J p l e (rmk 5 116) s m args below meth c D A 5 0 0 Q (gW h q dZ dB cap clo ((g_firstCut cap clo use par que).2.1) len set ((g_firstCut cap clo use par que).2.2.1) ((g_firstCut cap clo use par que).2.2.2)) 9 [(0, .ref h), (1, .int ((g_firstCut cap clo use par que).1)), (2, .int sum), (3, .int (nI i))] []
    refine j_iload_n C 3 rfl rfl dX0_cutStreets_9 rfl ?_
    refine j_bipush C 17 dX0_cutStreets_10 (by decide) rfl ?_
    refine j_icmp_ge C 60 dX0_cutStreets_12 (by decide) rfl (fun c_2 => absurd c_2 (nI_ge (a := i) (b := 17) hi (by decide))) (fun _ => ?_)
    refine j_iload_n C 1 rfl rfl dX0_cutStreets_15 rfl ?_
    refine j_iload_n C 3 rfl rfl dX0_cutStreets_16 rfl ?_
    refine j_callS C (met_X0_firstEnd l D (tyZ dZ dB) i hi) q75 q76 q15 q77 ds_X0_firstEnd ⟨rfl, rfl⟩ ⟨Nat.le_of_ble_eq_true rfl, Nat.le_of_ble_eq_true rfl⟩ rfl (rest := [.int ((g_firstCut cap clo use par que).1)]) rfl (Nat.le_of_ble_eq_true rfl) ⟨Nat.zero_le _, Nat.zero_le _⟩ dX0_cutStreets_17 rfl (st' := [.int (nI (fe i)), .int ((g_firstCut cap clo use par que).1)]) rfl ?_
    refine j_ishr C dX0_cutStreets_20 rfl ?_
    refine j_iload_n C 1 rfl rfl dX0_cutStreets_21 rfl ?_
    refine j_iload_n C 3 rfl rfl dX0_cutStreets_22 rfl ?_
    refine j_callS C (met_X0_secondEnd l D (tyZ dZ dB) i hi) q78 q79 q15 q80 ds_X0_secondEnd ⟨rfl, rfl⟩ ⟨Nat.le_of_ble_eq_true rfl, Nat.le_of_ble_eq_true rfl⟩ rfl (rest := [.int ((g_firstCut cap clo use par que).1), .int (((g_firstCut cap clo use par que).1) >>> ((nI (fe i)) &&& 31))]) rfl (Nat.le_of_ble_eq_true rfl) ⟨Nat.zero_le _, Nat.zero_le _⟩ dX0_cutStreets_23 rfl (st' := [.int (nI (se i)), .int ((g_firstCut cap clo use par que).1), .int (((g_firstCut cap clo use par que).1) >>> ((nI (fe i)) &&& 31))]) rfl ?_
    refine j_ishr C dX0_cutStreets_26 rfl ?_
    refine j_ixor C dX0_cutStreets_27 rfl ?_
    refine j_istore C [(4, .int ((((g_firstCut cap clo use par que).1) >>> ((nI (fe i)) &&& 31)) ^^^ (((g_firstCut cap clo use par que).1) >>> ((nI (se i)) &&& 31)))), (0, .ref h), (1, .int ((g_firstCut cap clo use par que).1)), (2, .int sum), (3, .int (nI i))] (by decide) rfl dX0_cutStreets_28 rfl ?_
    refine j_iload_n C 3 rfl rfl dX0_cutStreets_30 rfl ?_
    refine j_iload C 0 rfl dX0_cutStreets_31 rfl ?_
    refine j_iconst C 1 dX0_cutStreets_33 (by decide) rfl ?_
    refine j_iand C dX0_cutStreets_34 rfl ?_
    refine j_iconst C 1 dX0_cutStreets_35 (by decide) rfl ?_
    refine j_icmp_ne C 51 dX0_cutStreets_36 (by decide) rfl (fun c_3 => ?_) (fun c_3 => ?_)
    · refine j_iconst C 0 dX0_cutStreets_51 (by decide) rfl ?_
      refine j_iadd C dX0_cutStreets_52 rfl ?_
      refine j_istore_n C [(2, .int (sum + 0)), (4, .int ((((g_firstCut cap clo use par que).1) >>> ((nI (fe i)) &&& 31)) ^^^ (((g_firstCut cap clo use par que).1) >>> ((nI (se i)) &&& 31)))), (0, .ref h), (1, .int ((g_firstCut cap clo use par que).1)), (3, .int (nI i))] rfl (by decide) rfl dX0_cutStreets_53 rfl ?_
      refine j_iinc C [(3, .int (nI (i + 1))), (2, .int (sum + 0)), (4, .int ((((g_firstCut cap clo use par que).1) >>> ((nI (fe i)) &&& 31)) ^^^ (((g_firstCut cap clo use par que).1) >>> ((nI (se i)) &&& 31)))), (0, .ref h), (1, .int ((g_firstCut cap clo use par que).1))] 4 rfl (nI_1 _) (by decide) rfl dX0_cutStreets_54 rfl ?_
      refine j_goto C 9 dX0_cutStreets_57 (by decide) ?_
      refine j_lv [3, 4, 1, 0] (lv' := [(0, .ref h), (1, .int ((g_firstCut cap clo use par que).1)), (2, .int (sum + 0)), (3, .int (nI (i + 1)))]) rfl ?_
      exact K (sum + 0) (by show _ = g_cutStreets_a_s cap clo ((g_firstCut cap clo use par que).1) i sum; unfold g_cutStreets_a_s; rw [if_neg c_3])
    · refine j_aload_n C 1 rfl rfl dX0_cutStreets_39 rfl ?_
      refine j_iload_n C 4 rfl rfl dX0_cutStreets_40 rfl ?_
      refine j_callV C (met_X0_room l D h q dZ dB cap clo ((g_firstCut cap clo use par que).2.1) len set ((g_firstCut cap clo use par que).2.2.1) ((g_firstCut cap clo use par que).2.2.2) i hi) q96 q98 qs1 q15 q99 ds_X0_room ⟨rfl, rfl⟩ ⟨Nat.le_of_ble_eq_true rfl, Nat.le_of_ble_eq_true rfl⟩ rfl (rest := [.int sum]) rfl rfl rfl rfl (Nat.le_of_ble_eq_true rfl) ⟨Nat.zero_le _, Nat.zero_le _⟩ dX0_cutStreets_41 rfl (st' := [.int (g_room cap clo i), .int sum]) rfl ?_
      refine j_if_le C 51 dX0_cutStreets_44 (by decide) rfl (fun c_4 => ?_) (fun c_4 => ?_)
      · refine j_iconst C 0 dX0_cutStreets_51 (by decide) rfl ?_
        refine j_iadd C dX0_cutStreets_52 rfl ?_
        refine j_istore_n C [(2, .int (sum + 0)), (4, .int ((((g_firstCut cap clo use par que).1) >>> ((nI (fe i)) &&& 31)) ^^^ (((g_firstCut cap clo use par que).1) >>> ((nI (se i)) &&& 31)))), (0, .ref h), (1, .int ((g_firstCut cap clo use par que).1)), (3, .int (nI i))] rfl (by decide) rfl dX0_cutStreets_53 rfl ?_
        refine j_iinc C [(3, .int (nI (i + 1))), (2, .int (sum + 0)), (4, .int ((((g_firstCut cap clo use par que).1) >>> ((nI (fe i)) &&& 31)) ^^^ (((g_firstCut cap clo use par que).1) >>> ((nI (se i)) &&& 31)))), (0, .ref h), (1, .int ((g_firstCut cap clo use par que).1))] 4 rfl (nI_1 _) (by decide) rfl dX0_cutStreets_54 rfl ?_
        refine j_goto C 9 dX0_cutStreets_57 (by decide) ?_
        refine j_lv [3, 4, 1, 0] (lv' := [(0, .ref h), (1, .int ((g_firstCut cap clo use par que).1)), (2, .int (sum + 0)), (3, .int (nI (i + 1)))]) rfl ?_
        exact K (sum + 0) (by show _ = g_cutStreets_a_s cap clo ((g_firstCut cap clo use par que).1) i sum; unfold g_cutStreets_a_s; rw [if_pos c_3]; rw [if_pos c_4])
      · refine j_iconst C 1 dX0_cutStreets_47 (by decide) rfl ?_
        refine j_goto C 52 dX0_cutStreets_48 (by decide) ?_
        refine j_iadd C dX0_cutStreets_52 rfl ?_
        refine j_istore_n C [(2, .int (sum + 1)), (4, .int ((((g_firstCut cap clo use par que).1) >>> ((nI (fe i)) &&& 31)) ^^^ (((g_firstCut cap clo use par que).1) >>> ((nI (se i)) &&& 31)))), (0, .ref h), (1, .int ((g_firstCut cap clo use par que).1)), (3, .int (nI i))] rfl (by decide) rfl dX0_cutStreets_53 rfl ?_
        refine j_iinc C [(3, .int (nI (i + 1))), (2, .int (sum + 1)), (4, .int ((((g_firstCut cap clo use par que).1) >>> ((nI (fe i)) &&& 31)) ^^^ (((g_firstCut cap clo use par que).1) >>> ((nI (se i)) &&& 31)))), (0, .ref h), (1, .int ((g_firstCut cap clo use par que).1))] 4 rfl (nI_1 _) (by decide) rfl dX0_cutStreets_54 rfl ?_
        refine j_goto C 9 dX0_cutStreets_57 (by decide) ?_
        refine j_lv [3, 4, 1, 0] (lv' := [(0, .ref h), (1, .int ((g_firstCut cap clo use par que).1)), (2, .int (sum + 1)), (3, .int (nI (i + 1)))]) rfl ?_
        exact K (sum + 1) (by show _ = g_cutStreets_a_s cap clo ((g_firstCut cap clo use par que).1) i sum; unfold g_cutStreets_a_s; rw [if_pos c_3]; rw [if_neg c_4])
  show J p l e (rmk 5 116) s m args below meth c D A 5 0 0 Q (gW h q dZ dB cap clo ((g_firstCut cap clo use par que).2.1) len set ((g_firstCut cap clo use par que).2.2.1) ((g_firstCut cap clo use par que).2.2.2)) 60 [(0, .ref h), (1, .int ((g_firstCut cap clo use par que).1)), (2, .int (g_cutStreets_a_l cap clo ((g_firstCut cap clo use par que).1) 0))] []
  refine j_iload_n C 2 rfl rfl dX0_cutStreets_60 rfl ?_
  have T := T _ [(0, .ref h), (1, .int ((g_firstCut cap clo use par que).1)), (2, .int (g_cutStreets_a_l cap clo ((g_firstCut cap clo use par que).1) 0))] dX0_cutStreets_61
  rw [show g_cutStreets cap clo use par que = (g_cutStreets_a_l cap clo ((g_firstCut cap clo use par que).1) 0, (g_firstCut cap clo use par que).2.1, (g_firstCut cap clo use par que).2.2.1, (g_firstCut cap clo use par que).2.2.2) from rfl] at T
  exact T
end
section
set_option maxRecDepth 100000
def m_badStreet (x : Int32) : Int32 := (if x < 0 then 1 else (if x ≤ 16 then 0 else 1))
theorem ds_X1_badStreet : dsc yX1_badStreet 1 := by unfold dsc; decide +kernel
set_option maxHeartbeats 4000000 in
theorem met_X1_badStreet (l : Launch) (D : va_G) (h : Nat) (q : Nat → Nat) (dZ dB : ClassId) (siz shu one two : Nat → Int32) (x : Int32) : Ctd l yX1_badStreet cX1_badStreet 2 (some .boolean) (rmk 0 0) [.ref h, .int x] D (tyZ dZ dB) (mW h q dZ dB siz shu one two) (some (.int (m_badStreet x))) (mW h q dZ dB siz shu one two) := by
  refine Ctd.ofJz (by decide) (Nat.le_of_ble_eq_true rfl) (by unfold m_badStreet; split <;> (try split) <;> rfl) ?_
  intro p e s m args below meth c A Q C T
  show J p l e (rmk 0 0) s m args below meth c D A 2 0 0 Q (mW h q dZ dB siz shu one two) 0 [(0, .ref h), (1, .int x)] []
  refine j_iload_n C 1 rfl rfl dX1_badStreet_0 rfl ?_
  refine j_if_lt C 10 dX1_badStreet_1 (by decide) rfl (fun c_1 => ?_) (fun c_1 => ?_)
  · refine j_iconst C 1 dX1_badStreet_10 (by decide) rfl ?_
    refine j_goto C 15 dX1_badStreet_11 (by decide) ?_
    have T := T _ [(0, .ref h), (1, .int x)] dX1_badStreet_15
    rw [show m_badStreet x = 1 from by unfold m_badStreet; rw [if_pos c_1]] at T
    exact T
  · refine j_iload_n C 1 rfl rfl dX1_badStreet_4 rfl ?_
    refine j_bipush C 16 dX1_badStreet_5 (by decide) rfl ?_
    refine j_icmp_le C 14 dX1_badStreet_7 (by decide) rfl (fun c_2 => ?_) (fun c_2 => ?_)
    · refine j_iconst C 0 dX1_badStreet_14 (by decide) rfl ?_
      have T := T _ [(0, .ref h), (1, .int x)] dX1_badStreet_15
      rw [show m_badStreet x = 0 from by unfold m_badStreet; rw [if_neg c_1]; rw [if_pos c_2]] at T
      exact T
    · refine j_iconst C 1 dX1_badStreet_10 (by decide) rfl ?_
      refine j_goto C 15 dX1_badStreet_11 (by decide) ?_
      have T := T _ [(0, .ref h), (1, .int x)] dX1_badStreet_15
      rw [show m_badStreet x = 1 from by unfold m_badStreet; rw [if_neg c_1]; rw [if_neg c_2]] at T
      exact T
def m_bad (x : Int32) : Int32 := (if x < 0 then 1 else (if x ≤ 11 then 0 else 1))
theorem ds_X1_bad : dsc yX1_bad 1 := by unfold dsc; decide +kernel
set_option maxHeartbeats 4000000 in
theorem met_X1_bad (l : Launch) (D : va_G) (h : Nat) (q : Nat → Nat) (dZ dB : ClassId) (siz shu one two : Nat → Int32) (x : Int32) : Ctd l yX1_bad cX1_bad 2 (some .boolean) (rmk 0 0) [.ref h, .int x] D (tyZ dZ dB) (mW h q dZ dB siz shu one two) (some (.int (m_bad x))) (mW h q dZ dB siz shu one two) := by
  refine Ctd.ofJz (by decide) (Nat.le_of_ble_eq_true rfl) (by unfold m_bad; split <;> (try split) <;> rfl) ?_
  intro p e s m args below meth c A Q C T
  show J p l e (rmk 0 0) s m args below meth c D A 2 0 0 Q (mW h q dZ dB siz shu one two) 0 [(0, .ref h), (1, .int x)] []
  refine j_iload_n C 1 rfl rfl dX1_bad_0 rfl ?_
  refine j_if_lt C 10 dX1_bad_1 (by decide) rfl (fun c_1 => ?_) (fun c_1 => ?_)
  · refine j_iconst C 1 dX1_bad_10 (by decide) rfl ?_
    refine j_goto C 15 dX1_bad_11 (by decide) ?_
    have T := T _ [(0, .ref h), (1, .int x)] dX1_bad_15
    rw [show m_bad x = 1 from by unfold m_bad; rw [if_pos c_1]] at T
    exact T
  · refine j_iload_n C 1 rfl rfl dX1_bad_4 rfl ?_
    refine j_bipush C 11 dX1_bad_5 (by decide) rfl ?_
    refine j_icmp_le C 14 dX1_bad_7 (by decide) rfl (fun c_2 => ?_) (fun c_2 => ?_)
    · refine j_iconst C 0 dX1_bad_14 (by decide) rfl ?_
      have T := T _ [(0, .ref h), (1, .int x)] dX1_bad_15
      rw [show m_bad x = 0 from by unfold m_bad; rw [if_neg c_1]; rw [if_pos c_2]] at T
      exact T
    · refine j_iconst C 1 dX1_bad_10 (by decide) rfl ?_
      refine j_goto C 15 dX1_bad_11 (by decide) ?_
      have T := T _ [(0, .ref h), (1, .int x)] dX1_bad_15
      rw [show m_bad x = 1 from by unfold m_bad; rw [if_neg c_1]; rw [if_neg c_2]] at T
      exact T
theorem badStreet_in {x : Int32} (h : m_badStreet x = 0) : x = nI x.toNatClampNeg ∧ x.toNatClampNeg < 17 := by
  unfold m_badStreet at h
  by_cases h1 : x < 0
  · rw [if_pos h1] at h; exact absurd h (by decide)
  · by_cases h2 : x ≤ (16 : Int32)
    · refine in_of (n := 17) (by decide) h1 (fun h3 => ?_)
      have h4 := Int32.le_trans h3 h2
      exact absurd h4 (by decide)
    · rw [if_neg h1, if_neg h2] at h; exact absurd h (by decide)
theorem m_inc2 (i : Nat) : nI (2 * i + 1) + Int32.ofInt 2 = nI (2 * (i + 1) + 1) := by
  show nI (2 * i + 1) + nI 2 = _
  rw [nI_add]
  exact congrArg nI (by omega)
def m_open (siz : Nat → Int32) (shu : Nat → Int32) (k : Nat) : Int32 := (if (shu k) = 0 then siz k else 0)
theorem ds_X1_open : dsc yX1_open 1 := by unfold dsc; decide +kernel
set_option maxHeartbeats 4000000 in
theorem met_X1_open (l : Launch) (D : va_G) (h : Nat) (q : Nat → Nat) (dZ dB : ClassId) (siz shu one two : Nat → Int32) (k : Nat) (hk : k < 17) : Ctd l yX1_open cX1_open 2 (some .int) (rmk 0 0) [.ref h, .int (nI k)] D (tyZ dZ dB) (mW h q dZ dB siz shu one two) (some (.int (m_open siz shu k))) (mW h q dZ dB siz shu one two) := by
  refine Ctd.ofJi (by decide) (Nat.le_of_ble_eq_true rfl) ?_
  intro p e s m args below meth c A Q C T
  show J p l e (rmk 0 0) s m args below meth c D A 2 0 0 Q (mW h q dZ dB siz shu one two) 0 [(0, .ref h), (1, .int (nI k))] []
  refine j_aload_n C 0 rfl rfl dX1_open_0 rfl ?_
  refine j_get1 C 1 rfl (by decide) q171 rfl rfl dX1_open_1 rfl ?_
  refine j_iload_n C 1 rfl rfl dX1_open_4 rfl ?_
  refine j_zald (k := k) C 2 rfl rfl hk (by decide) dX1_open_5 rfl ?_
  refine j_if_eq C 13 dX1_open_6 (by decide) rfl (fun c_1 => ?_) (fun c_1 => ?_)
  · refine j_aload_n C 0 rfl rfl dX1_open_13 rfl ?_
    refine j_get1 C 0 rfl (by decide) q170 rfl rfl dX1_open_14 rfl ?_
    refine j_iload_n C 1 rfl rfl dX1_open_17 rfl ?_
    refine j_iald (k := k) C 1 rfl rfl hk (by decide) dX1_open_18 rfl ?_
    have T := T _ [(0, .ref h), (1, .int (nI k))] dX1_open_19
    rw [show m_open siz shu k = siz k from by unfold m_open; rw [if_pos c_1]] at T
    exact T
  · refine j_iconst C 0 dX1_open_9 (by decide) rfl ?_
    refine j_goto C 19 dX1_open_10 (by decide) ?_
    have T := T _ [(0, .ref h), (1, .int (nI k))] dX1_open_19
    rw [show m_open siz shu k = 0 from by unfold m_open; rw [if_neg c_1]] at T
    exact T
def m_weigh_a_s (siz : Nat → Int32) (shu : Nat → Int32) (one : Nat → Int32) (two : Nat → Int32) (cut : Int32) (i : Nat) (sum : Int32) : Int32 := (if ((cut >>> ((one i) &&& 31)) &&& 1) = ((cut >>> ((two i) &&& 31)) &&& 1) then sum else sum + (m_open siz shu i))
def m_weigh_a_l (siz : Nat → Int32) (shu : Nat → Int32) (one : Nat → Int32) (two : Nat → Int32) (cut : Int32) (sum : Int32) : Int32 := lpF (fun i z => m_weigh_a_s siz shu one two cut i z) 17 0 sum
def m_weigh (siz : Nat → Int32) (shu : Nat → Int32) (one : Nat → Int32) (two : Nat → Int32) (cut : Int32) : Int32 := m_weigh_a_l siz shu one two cut 0
theorem ds_X1_weigh : dsc yX1_weigh 1 := by unfold dsc; decide +kernel
set_option maxHeartbeats 4000000 in
theorem met_X1_weigh (l : Launch) (D : va_G) (h : Nat) (q : Nat → Nat) (dZ dB : ClassId) (siz shu one two : Nat → Int32) (cut : Int32) : Ctd l yX1_weigh cX1_weigh 4 (some .int) (rmk 1 21) [.ref h, .int cut] D (tyZ dZ dB) (mW h q dZ dB siz shu one two) (some (.int (m_weigh siz shu one two cut))) (mW h q dZ dB siz shu one two) := by
  refine Ctd.ofJi (by decide) (Nat.le_of_ble_eq_true rfl) ?_
  intro p e s m args below meth c A Q C T
  show J p l e (rmk 1 21) s m args below meth c D A 4 0 0 Q (mW h q dZ dB siz shu one two) 0 [(0, .ref h), (1, .int cut)] []
  refine j_iconst C 0 dX1_weigh_0 (by decide) rfl ?_
  refine j_istore_n C [(2, .int 0), (0, .ref h), (1, .int cut)] rfl (by decide) rfl dX1_weigh_1 rfl ?_
  refine j_iconst C 0 dX1_weigh_2 (by decide) rfl ?_
  refine j_istore_n C [(3, .int 0), (2, .int 0), (0, .ref h), (1, .int cut)] rfl (by decide) rfl dX1_weigh_3 rfl ?_
  refine j_lv [2, 3, 1, 0] (lv' := [(0, .ref h), (1, .int cut), (2, .int 0), (3, .int 0)]) rfl ?_
  refine lpF_rule0 (σ := Int32) (fun i z => m_weigh_a_s siz shu one two cut i z) 17 (fun i z => J p l e (rmk 1 21) s m args below meth c D A 4 0 0 Q (mW h q dZ dB siz shu one two) 4 [(0, .ref h), (1, .int cut), (2, .int z), (3, .int (nI i))] []) (fun z => J p l e (rmk 1 21) s m args below meth c D A 4 0 0 Q (mW h q dZ dB siz shu one two) 47 [(0, .ref h), (1, .int cut), (2, .int z)] []) ?_ ?_ 0 ?_
  · rintro sum E
    show J p l e (rmk 1 21) s m args below meth c D A 4 0 0 Q (mW h q dZ dB siz shu one two) 4 [(0, .ref h), (1, .int cut), (2, .int sum), (3, .int (nI 17))] []
    refine j_iload_n C 3 rfl rfl dX1_weigh_4 rfl ?_
    refine j_bipush C 17 dX1_weigh_5 (by decide) rfl ?_
    refine j_icmp_ge C 47 dX1_weigh_7 (by decide) rfl (fun _ => ?_) (fun c_1 => absurd (nI_le (a := 17) (b := 17) (by decide) (by decide)) c_1)
    exact j_lv [0, 1, 2] rfl E
  · rintro i sum hi K
    show J p l e (rmk 1 21) s m args below meth c D A 4 0 0 Q (mW h q dZ dB siz shu one two) 4 [(0, .ref h), (1, .int cut), (2, .int sum), (3, .int (nI i))] []
    refine j_iload_n C 3 rfl rfl dX1_weigh_4 rfl ?_
    refine j_bipush C 17 dX1_weigh_5 (by decide) rfl ?_
    refine j_icmp_ge C 47 dX1_weigh_7 (by decide) rfl (fun c_2 => absurd c_2 (nI_ge (a := i) (b := 17) hi (by decide))) (fun _ => ?_)
    refine j_iload_n C 1 rfl rfl dX1_weigh_10 rfl ?_
    refine j_aload_n C 0 rfl rfl dX1_weigh_11 rfl ?_
    refine j_get1 C 2 rfl (by decide) q172 rfl rfl dX1_weigh_12 rfl ?_
    refine j_iload_n C 3 rfl rfl dX1_weigh_15 rfl ?_
    refine j_iald (k := i) C 3 rfl rfl hi (by decide) dX1_weigh_16 rfl ?_
    refine j_ishr C dX1_weigh_17 rfl ?_
    refine j_iconst C 1 dX1_weigh_18 (by decide) rfl ?_
    refine j_iand C dX1_weigh_19 rfl ?_
    refine j_iload_n C 1 rfl rfl dX1_weigh_20 rfl ?_
    refine j_aload_n C 0 rfl rfl dX1_weigh_21 rfl ?_
    refine j_get1 C 3 rfl (by decide) q173 rfl rfl dX1_weigh_22 rfl ?_
    refine j_iload_n C 3 rfl rfl dX1_weigh_25 rfl ?_
    refine j_iald (k := i) C 4 rfl rfl hi (by decide) dX1_weigh_26 rfl ?_
    refine j_ishr C dX1_weigh_27 rfl ?_
    refine j_iconst C 1 dX1_weigh_28 (by decide) rfl ?_
    refine j_iand C dX1_weigh_29 rfl ?_
    refine j_icmp_eq C 41 dX1_weigh_30 (by decide) rfl (fun c_3 => ?_) (fun c_3 => ?_)
    · refine j_iinc C [(3, .int (nI (i + 1))), (0, .ref h), (1, .int cut), (2, .int sum)] 3 rfl (nI_1 _) (by decide) rfl dX1_weigh_41 rfl ?_
      refine j_goto C 4 dX1_weigh_44 (by decide) ?_
      refine j_lv [1, 2, 3, 0] (lv' := [(0, .ref h), (1, .int cut), (2, .int sum), (3, .int (nI (i + 1)))]) rfl ?_
      exact K sum (by show _ = m_weigh_a_s siz shu one two cut i sum; unfold m_weigh_a_s; rw [if_pos c_3])
    · refine j_iload_n C 2 rfl rfl dX1_weigh_33 rfl ?_
      refine j_aload_n C 0 rfl rfl dX1_weigh_34 rfl ?_
      refine j_iload_n C 3 rfl rfl dX1_weigh_35 rfl ?_
      refine j_callV C (met_X1_open l D h q dZ dB siz shu one two i hi) q223 q225 qs12 q16 q226 ds_X1_open ⟨rfl, rfl⟩ ⟨Nat.le_of_ble_eq_true rfl, Nat.le_of_ble_eq_true rfl⟩ rfl (rest := [.int sum]) rfl rfl rfl rfl (Nat.le_of_ble_eq_true rfl) ⟨Nat.zero_le _, Nat.zero_le _⟩ dX1_weigh_36 rfl (st' := [.int (m_open siz shu i), .int sum]) rfl ?_
      refine j_iadd C dX1_weigh_39 rfl ?_
      refine j_istore_n C [(2, .int (sum + (m_open siz shu i))), (0, .ref h), (1, .int cut), (3, .int (nI i))] rfl (by decide) rfl dX1_weigh_40 rfl ?_
      refine j_iinc C [(3, .int (nI (i + 1))), (2, .int (sum + (m_open siz shu i))), (0, .ref h), (1, .int cut)] 3 rfl (nI_1 _) (by decide) rfl dX1_weigh_41 rfl ?_
      refine j_goto C 4 dX1_weigh_44 (by decide) ?_
      refine j_lv [2, 3, 1, 0] (lv' := [(0, .ref h), (1, .int cut), (2, .int (sum + (m_open siz shu i))), (3, .int (nI (i + 1)))]) rfl ?_
      exact K (sum + (m_open siz shu i)) (by show _ = m_weigh_a_s siz shu one two cut i sum; unfold m_weigh_a_s; rw [if_neg c_3])
  show J p l e (rmk 1 21) s m args below meth c D A 4 0 0 Q (mW h q dZ dB siz shu one two) 47 [(0, .ref h), (1, .int cut), (2, .int (m_weigh_a_l siz shu one two cut 0))] []
  refine j_iload_n C 2 rfl rfl dX1_weigh_47 rfl ?_
  have T := T _ [(0, .ref h), (1, .int cut), (2, .int (m_weigh_a_l siz shu one two cut 0))] dX1_weigh_48
  rw [show m_weigh siz shu one two cut = m_weigh_a_l siz shu one two cut 0 from rfl] at T
  exact T
def m_least_a_s (siz : Nat → Int32) (shu : Nat → Int32) (one : Nat → Int32) (two : Nat → Int32) (k : Int32) (side : Int32) (i : Nat) (found : Int32) : Int32 := (if (((nI (2 * i + 1)) >>> (k &&& 31)) &&& 1) = side then (if found < 0 then m_weigh siz shu one two (nI (2 * i + 1)) else (if found ≤ (m_weigh siz shu one two (nI (2 * i + 1))) then found else m_weigh siz shu one two (nI (2 * i + 1)))) else found)
def m_least_a_l (siz : Nat → Int32) (shu : Nat → Int32) (one : Nat → Int32) (two : Nat → Int32) (k : Int32) (side : Int32) (found : Int32) : Int32 := lpF (fun i z => m_least_a_s siz shu one two k side i z) 1024 0 found
def m_least (siz : Nat → Int32) (shu : Nat → Int32) (one : Nat → Int32) (two : Nat → Int32) (k : Int32) (side : Int32) : Int32 := m_least_a_l siz shu one two k side (-1)
theorem ds_X1_least : dsc yX1_least 2 := by unfold dsc; decide +kernel
set_option maxHeartbeats 4000000 in
theorem met_X1_least (l : Launch) (D : va_G) (h : Nat) (q : Nat → Nat) (dZ dB : ClassId) (siz shu one two : Nat → Int32) (k : Int32) (side : Int32) : Ctd l yX1_least cX1_least 6 (some .int) (rmk 2 44) [.ref h, .int k, .int side] D (tyZ dZ dB) (mW h q dZ dB siz shu one two) (some (.int (m_least siz shu one two k side))) (mW h q dZ dB siz shu one two) := by
  refine Ctd.ofJi (by decide) (Nat.le_of_ble_eq_true rfl) ?_
  intro p e s m args below meth c A Q C T
  show J p l e (rmk 2 44) s m args below meth c D A 6 0 0 Q (mW h q dZ dB siz shu one two) 0 [(0, .ref h), (1, .int k), (2, .int side)] []
  refine j_iconst C (-1) dX1_least_0 (by decide) rfl ?_
  refine j_istore_n C [(3, .int (-1)), (0, .ref h), (1, .int k), (2, .int side)] rfl (by decide) rfl dX1_least_1 rfl ?_
  refine j_iconst C 1 dX1_least_2 (by decide) rfl ?_
  refine j_istore C [(4, .int 1), (3, .int (-1)), (0, .ref h), (1, .int k), (2, .int side)] (by decide) rfl dX1_least_3 rfl ?_
  refine j_lv [2, 3, 4, 1, 0] (lv' := [(0, .ref h), (1, .int k), (2, .int side), (3, .int (-1)), (4, .int 1)]) rfl ?_
  refine lpF_rule0 (σ := Int32) (fun i z => m_least_a_s siz shu one two k side i z) 1024 (fun i z => J p l e (rmk 2 44) s m args below meth c D A 6 0 0 Q (mW h q dZ dB siz shu one two) 5 [(0, .ref h), (1, .int k), (2, .int side), (3, .int z), (4, .int (nI (2 * i + 1)))] []) (fun z => J p l e (rmk 2 44) s m args below meth c D A 6 0 0 Q (mW h q dZ dB siz shu one two) 50 [(0, .ref h), (1, .int k), (2, .int side), (3, .int z)] []) ?_ ?_ (-1) ?_
  · rintro found E
    show J p l e (rmk 2 44) s m args below meth c D A 6 0 0 Q (mW h q dZ dB siz shu one two) 5 [(0, .ref h), (1, .int k), (2, .int side), (3, .int found), (4, .int (nI (2 * 1024 + 1)))] []
    refine j_iload C 4 rfl dX1_least_5 rfl ?_
    refine j_sipush C 2048 dX1_least_7 (by decide) rfl ?_
    refine j_icmp_ge C 50 dX1_least_10 (by decide) rfl (fun _ => ?_) (fun c_1 => absurd (nI_le (a := 2048) (b := 2 * 1024 + 1) (by decide) (by decide)) c_1)
    exact j_lv [0, 1, 2, 3] rfl E
  · rintro i found hi K
    show J p l e (rmk 2 44) s m args below meth c D A 6 0 0 Q (mW h q dZ dB siz shu one two) 5 [(0, .ref h), (1, .int k), (2, .int side), (3, .int found), (4, .int (nI (2 * i + 1)))] []
    refine j_iload C 4 rfl dX1_least_5 rfl ?_
    refine j_sipush C 2048 dX1_least_7 (by decide) rfl ?_
    refine j_icmp_ge C 50 dX1_least_10 (by decide) rfl (fun c_2 => absurd c_2 (nI_ge (a := 2 * i + 1) (b := 2048) (by omega) (by decide))) (fun _ => ?_)
    refine j_iload C 4 rfl dX1_least_13 rfl ?_
    refine j_iload_n C 1 rfl rfl dX1_least_15 rfl ?_
    refine j_ishr C dX1_least_16 rfl ?_
    refine j_iconst C 1 dX1_least_17 (by decide) rfl ?_
    refine j_iand C dX1_least_18 rfl ?_
    refine j_iload_n C 2 rfl rfl dX1_least_19 rfl ?_
    refine j_icmp_ne C 44 dX1_least_20 (by decide) rfl (fun c_3 => ?_) (fun c_3 => ?_)
    · refine j_iinc C [(4, .int (nI (2 * (i + 1) + 1))), (0, .ref h), (1, .int k), (2, .int side), (3, .int found)] 4 rfl (m_inc2 _) (by decide) rfl dX1_least_44 rfl ?_
      refine j_goto C 5 dX1_least_47 (by decide) ?_
      refine j_lv [1, 2, 3, 4, 0] (lv' := [(0, .ref h), (1, .int k), (2, .int side), (3, .int found), (4, .int (nI (2 * (i + 1) + 1)))]) rfl ?_
      exact K found (by show _ = m_least_a_s siz shu one two k side i found; unfold m_least_a_s; rw [if_neg c_3])
    · refine j_aload_n C 0 rfl rfl dX1_least_23 rfl ?_
      refine j_iload C 4 rfl dX1_least_24 rfl ?_
      refine j_callV C (met_X1_weigh l D h q dZ dB siz shu one two (nI (2 * i + 1))) q219 q221 qs11 q16 q222 ds_X1_weigh ⟨rfl, rfl⟩ ⟨Nat.le_of_ble_eq_true rfl, Nat.le_of_ble_eq_true rfl⟩ rfl (rest := []) rfl rfl rfl rfl (Nat.le_of_ble_eq_true rfl) ⟨Nat.zero_le _, Nat.zero_le _⟩ dX1_least_26 rfl (st' := [.int (m_weigh siz shu one two (nI (2 * i + 1)))]) rfl ?_
      refine j_istore C [(5, .int (m_weigh siz shu one two (nI (2 * i + 1)))), (0, .ref h), (1, .int k), (2, .int side), (3, .int found), (4, .int (nI (2 * i + 1)))] (by decide) rfl dX1_least_29 rfl ?_
      refine j_iload_n C 4 rfl rfl dX1_least_31 rfl ?_
      refine j_if_lt C 41 dX1_least_32 (by decide) rfl (fun c_4 => ?_) (fun c_4 => ?_)
      · refine j_iload C 0 rfl dX1_least_41 rfl ?_
        refine j_istore_n C [(3, .int (m_weigh siz shu one two (nI (2 * i + 1)))), (5, .int (m_weigh siz shu one two (nI (2 * i + 1)))), (0, .ref h), (1, .int k), (2, .int side), (4, .int (nI (2 * i + 1)))] rfl (by decide) rfl dX1_least_43 rfl ?_
        refine j_iinc C [(4, .int (nI (2 * (i + 1) + 1))), (3, .int (m_weigh siz shu one two (nI (2 * i + 1)))), (5, .int (m_weigh siz shu one two (nI (2 * i + 1)))), (0, .ref h), (1, .int k), (2, .int side)] 5 rfl (m_inc2 _) (by decide) rfl dX1_least_44 rfl ?_
        refine j_goto C 5 dX1_least_47 (by decide) ?_
        refine j_lv [3, 4, 5, 1, 0] (lv' := [(0, .ref h), (1, .int k), (2, .int side), (3, .int (m_weigh siz shu one two (nI (2 * i + 1)))), (4, .int (nI (2 * (i + 1) + 1)))]) rfl ?_
        exact K (m_weigh siz shu one two (nI (2 * i + 1))) (by show _ = m_least_a_s siz shu one two k side i found; unfold m_least_a_s; rw [if_pos c_3]; rw [if_pos c_4])
      · refine j_iload C 0 rfl dX1_least_35 rfl ?_
        refine j_iload_n C 4 rfl rfl dX1_least_37 rfl ?_
        refine j_icmp_ge C 44 dX1_least_38 (by decide) rfl (fun c_5 => ?_) (fun c_5 => ?_)
        · refine j_iinc C [(4, .int (nI (2 * (i + 1) + 1))), (5, .int (m_weigh siz shu one two (nI (2 * i + 1)))), (0, .ref h), (1, .int k), (2, .int side), (3, .int found)] 5 rfl (m_inc2 _) (by decide) rfl dX1_least_44 rfl ?_
          refine j_goto C 5 dX1_least_47 (by decide) ?_
          refine j_lv [2, 3, 4, 5, 0] (lv' := [(0, .ref h), (1, .int k), (2, .int side), (3, .int found), (4, .int (nI (2 * (i + 1) + 1)))]) rfl ?_
          exact K found (by show _ = m_least_a_s siz shu one two k side i found; unfold m_least_a_s; rw [if_pos c_3]; rw [if_neg c_4]; rw [if_pos c_5])
        · refine j_iload C 0 rfl dX1_least_41 rfl ?_
          refine j_istore_n C [(3, .int (m_weigh siz shu one two (nI (2 * i + 1)))), (5, .int (m_weigh siz shu one two (nI (2 * i + 1)))), (0, .ref h), (1, .int k), (2, .int side), (4, .int (nI (2 * i + 1)))] rfl (by decide) rfl dX1_least_43 rfl ?_
          refine j_iinc C [(4, .int (nI (2 * (i + 1) + 1))), (3, .int (m_weigh siz shu one two (nI (2 * i + 1)))), (5, .int (m_weigh siz shu one two (nI (2 * i + 1)))), (0, .ref h), (1, .int k), (2, .int side)] 5 rfl (m_inc2 _) (by decide) rfl dX1_least_44 rfl ?_
          refine j_goto C 5 dX1_least_47 (by decide) ?_
          refine j_lv [3, 4, 5, 1, 0] (lv' := [(0, .ref h), (1, .int k), (2, .int side), (3, .int (m_weigh siz shu one two (nI (2 * i + 1)))), (4, .int (nI (2 * (i + 1) + 1)))]) rfl ?_
          exact K (m_weigh siz shu one two (nI (2 * i + 1))) (by show _ = m_least_a_s siz shu one two k side i found; unfold m_least_a_s; rw [if_pos c_3]; rw [if_neg c_4]; rw [if_neg c_5])
  show J p l e (rmk 2 44) s m args below meth c D A 6 0 0 Q (mW h q dZ dB siz shu one two) 50 [(0, .ref h), (1, .int k), (2, .int side), (3, .int (m_least_a_l siz shu one two k side (-1)))] []
  refine j_iload_n C 3 rfl rfl dX1_least_50 rfl ?_
  have T := T _ [(0, .ref h), (1, .int k), (2, .int side), (3, .int (m_least_a_l siz shu one two k side (-1)))] dX1_least_51
  rw [show m_least siz shu one two k side = m_least_a_l siz shu one two k side (-1) from rfl] at T
  exact T
def m_set (siz : Nat → Int32) (street : Int32) (v : Int32) : Int32 × (Nat → Int32) := (if (m_badStreet street) = 0 then (if v < 0 then ((-2), siz) else (if v ≤ 20 then (siz street.toNatClampNeg, upd siz street.toNatClampNeg v) else ((-2), siz))) else ((-1), siz))
theorem ds_X1_set : dsc yX1_set 2 := by unfold dsc; decide +kernel
set_option maxHeartbeats 4000000 in
theorem met_X1_set (l : Launch) (D : va_G) (h : Nat) (q : Nat → Nat) (dZ dB : ClassId) (siz shu one two : Nat → Int32) (street : Int32) (v : Int32) : Ctd l yX1_set cX1_set 4 (some .int) (rmk 1 21) [.ref h, .int street, .int v] D (tyZ dZ dB) (mW h q dZ dB siz shu one two) (some (.int ((m_set siz street v).1))) (mW h q dZ dB ((m_set siz street v).2) shu one two) := by
  refine Ctd.ofJi (by decide) (Nat.le_of_ble_eq_true rfl) ?_
  intro p e s m args below meth c A Q C T
  show J p l e (rmk 1 21) s m args below meth c D A 4 0 0 Q (mW h q dZ dB siz shu one two) 0 [(0, .ref h), (1, .int street), (2, .int v)] []
  refine j_aload_n C 0 rfl rfl dX1_set_0 rfl ?_
  refine j_iload_n C 1 rfl rfl dX1_set_1 rfl ?_
  refine j_callV C (met_X1_badStreet l D h q dZ dB siz shu one two street) q187 q189 qs8 q16 q190 ds_X1_badStreet ⟨rfl, rfl⟩ ⟨Nat.le_of_ble_eq_true rfl, Nat.le_of_ble_eq_true rfl⟩ rfl (rest := []) rfl rfl rfl rfl (Nat.le_of_ble_eq_true rfl) ⟨Nat.zero_le _, Nat.zero_le _⟩ dX1_set_2 rfl (st' := [.int (m_badStreet street)]) rfl ?_
  refine j_if_eq C 10 dX1_set_5 (by decide) rfl (fun c_1 => ?_) (fun c_1 => ?_)
  · have hstreet1 := badStreet_in c_1
    refine j_lve (lv' := [(0, .ref h), (1, .int (nI street.toNatClampNeg)), (2, .int v)]) (by rw [← hstreet1.1]) ?_
    refine j_iload_n C 2 rfl rfl dX1_set_10 rfl ?_
    refine j_if_lt C 20 dX1_set_11 (by decide) rfl (fun c_2 => ?_) (fun c_2 => ?_)
    · refine j_bipush C (-2) dX1_set_20 (by decide) rfl ?_
      have T := T _ [(0, .ref h), (1, .int (nI street.toNatClampNeg)), (2, .int v)] dX1_set_22
      rw [show m_set siz street v = ((-2), siz) from by unfold m_set; rw [if_pos c_1]; rw [if_pos c_2]] at T
      exact T
    · refine j_iload_n C 2 rfl rfl dX1_set_14 rfl ?_
      refine j_bipush C 20 dX1_set_15 (by decide) rfl ?_
      refine j_icmp_le C 23 dX1_set_17 (by decide) rfl (fun c_3 => ?_) (fun c_3 => ?_)
      · refine j_aload_n C 0 rfl rfl dX1_set_23 rfl ?_
        refine j_get1 C 0 rfl (by decide) q170 rfl rfl dX1_set_24 rfl ?_
        refine j_iload_n C 1 rfl rfl dX1_set_27 rfl ?_
        refine j_iald (k := street.toNatClampNeg) C 1 rfl rfl hstreet1.2 (by decide) dX1_set_28 rfl ?_
        refine j_istore_n C [(3, .int (siz street.toNatClampNeg)), (0, .ref h), (1, .int (nI street.toNatClampNeg)), (2, .int v)] rfl (by decide) rfl dX1_set_29 rfl ?_
        refine j_aload_n C 1 rfl rfl dX1_set_30 rfl ?_
        refine j_get1 C 0 rfl (by decide) q170 rfl rfl dX1_set_31 rfl ?_
        refine j_iload_n C 2 rfl rfl dX1_set_34 rfl ?_
        refine j_iload_n C 3 rfl rfl dX1_set_35 rfl ?_
        refine j_iast (k := street.toNatClampNeg) C 1 (mW h q dZ dB (upd siz street.toNatClampNeg v) shu one two) rfl rfl hstreet1.2 (by decide) rfl dX1_set_36 rfl ?_
        refine j_iload_n C 0 rfl rfl dX1_set_37 rfl ?_
        have T := T _ [(3, .int (siz street.toNatClampNeg)), (0, .ref h), (1, .int (nI street.toNatClampNeg)), (2, .int v)] dX1_set_38
        rw [show m_set siz street v = (siz street.toNatClampNeg, upd siz street.toNatClampNeg v) from by unfold m_set; rw [if_pos c_1]; rw [if_neg c_2]; rw [if_pos c_3]] at T
        exact T
      · refine j_bipush C (-2) dX1_set_20 (by decide) rfl ?_
        have T := T _ [(0, .ref h), (1, .int (nI street.toNatClampNeg)), (2, .int v)] dX1_set_22
        rw [show m_set siz street v = ((-2), siz) from by unfold m_set; rw [if_pos c_1]; rw [if_neg c_2]; rw [if_neg c_3]] at T
        exact T
  · refine j_iconst C (-1) dX1_set_8 (by decide) rfl ?_
    have T := T _ [(0, .ref h), (1, .int street), (2, .int v)] dX1_set_9
    rw [show m_set siz street v = ((-1), siz) from by unfold m_set; rw [if_neg c_1]] at T
    exact T
def m_sow_a_s (seed : Int32) (bend : Int32) (i : Nat) (sum : Int32) (siz : Nat → Int32) : Int32 × (Nat → Int32) := (sum + ((upd siz i (((seed + (7 * (nI i))) + (((nI i) * (nI i)) * bend)) - ((seed + (7 * (nI i))) + (((nI i) * (nI i)) * bend)) / 21 * 21)) i), upd siz i (((seed + (7 * (nI i))) + (((nI i) * (nI i)) * bend)) - ((seed + (7 * (nI i))) + (((nI i) * (nI i)) * bend)) / 21 * 21))
def m_sow_a_l (seed : Int32) (bend : Int32) (sum : Int32) (siz : Nat → Int32) : Int32 × (Nat → Int32) := lpF (fun i z => m_sow_a_s seed bend i z.1 z.2) 17 0 (sum, siz)
def m_sow (siz : Nat → Int32) (seed : Int32) (bend : Int32) : Int32 × (Nat → Int32) := (if seed < 0 then ((-1), siz) else (if seed ≤ 20 then (if bend < 0 then ((-2), siz) else (if bend ≤ 20 then ((m_sow_a_l seed bend 0 siz).1, (m_sow_a_l seed bend 0 siz).2) else ((-2), siz))) else ((-1), siz)))
theorem ds_X1_sow : dsc yX1_sow 2 := by unfold dsc; decide +kernel
set_option maxHeartbeats 4000000 in
theorem met_X1_sow (l : Launch) (D : va_G) (h : Nat) (q : Nat → Nat) (dZ dB : ClassId) (siz shu one two : Nat → Int32) (seed : Int32) (bend : Int32) : Ctd l yX1_sow cX1_sow 5 (some .int) (rmk 0 0) [.ref h, .int seed, .int bend] D (tyZ dZ dB) (mW h q dZ dB siz shu one two) (some (.int ((m_sow siz seed bend).1))) (mW h q dZ dB ((m_sow siz seed bend).2) shu one two) := by
  refine Ctd.ofJi (by decide) (Nat.le_of_ble_eq_true rfl) ?_
  intro p e s m args below meth c A Q C T
  show J p l e (rmk 0 0) s m args below meth c D A 5 0 0 Q (mW h q dZ dB siz shu one two) 0 [(0, .ref h), (1, .int seed), (2, .int bend)] []
  refine j_iload_n C 1 rfl rfl dX1_sow_0 rfl ?_
  refine j_if_lt C 10 dX1_sow_1 (by decide) rfl (fun c_1 => ?_) (fun c_1 => ?_)
  · refine j_iconst C (-1) dX1_sow_10 (by decide) rfl ?_
    have T := T _ [(0, .ref h), (1, .int seed), (2, .int bend)] dX1_sow_11
    rw [show m_sow siz seed bend = ((-1), siz) from by unfold m_sow; rw [if_pos c_1]] at T
    exact T
  · refine j_iload_n C 1 rfl rfl dX1_sow_4 rfl ?_
    refine j_bipush C 20 dX1_sow_5 (by decide) rfl ?_
    refine j_icmp_le C 12 dX1_sow_7 (by decide) rfl (fun c_2 => ?_) (fun c_2 => ?_)
    · refine j_iload_n C 2 rfl rfl dX1_sow_12 rfl ?_
      refine j_if_lt C 22 dX1_sow_13 (by decide) rfl (fun c_3 => ?_) (fun c_3 => ?_)
      · refine j_bipush C (-2) dX1_sow_22 (by decide) rfl ?_
        have T := T _ [(0, .ref h), (1, .int seed), (2, .int bend)] dX1_sow_24
        rw [show m_sow siz seed bend = ((-2), siz) from by unfold m_sow; rw [if_neg c_1]; rw [if_pos c_2]; rw [if_pos c_3]] at T
        exact T
      · refine j_iload_n C 2 rfl rfl dX1_sow_16 rfl ?_
        refine j_bipush C 20 dX1_sow_17 (by decide) rfl ?_
        refine j_icmp_le C 25 dX1_sow_19 (by decide) rfl (fun c_4 => ?_) (fun c_4 => ?_)
        · refine j_iconst C 0 dX1_sow_25 (by decide) rfl ?_
          refine j_istore_n C [(3, .int 0), (0, .ref h), (1, .int seed), (2, .int bend)] rfl (by decide) rfl dX1_sow_26 rfl ?_
          refine j_iconst C 0 dX1_sow_27 (by decide) rfl ?_
          refine j_istore C [(4, .int 0), (3, .int 0), (0, .ref h), (1, .int seed), (2, .int bend)] (by decide) rfl dX1_sow_28 rfl ?_
          refine j_lv [2, 3, 4, 1, 0] (lv' := [(0, .ref h), (1, .int seed), (2, .int bend), (3, .int 0), (4, .int 0)]) rfl ?_
          refine lpF_rule0 (σ := Int32 × (Nat → Int32)) (fun i z => m_sow_a_s seed bend i z.1 z.2) 17 (fun i z => J p l e (rmk 0 0) s m args below meth c D A 5 0 0 Q (mW h q dZ dB z.2 shu one two) 30 [(0, .ref h), (1, .int seed), (2, .int bend), (3, .int z.1), (4, .int (nI i))] []) (fun z => J p l e (rmk 0 0) s m args below meth c D A 5 0 0 Q (mW h q dZ dB z.2 shu one two) 78 [(0, .ref h), (1, .int seed), (2, .int bend), (3, .int z.1)] []) ?_ ?_ (0, siz) ?_
          · rintro ⟨sum, siz⟩ E
            show J p l e (rmk 0 0) s m args below meth c D A 5 0 0 Q (mW h q dZ dB siz shu one two) 30 [(0, .ref h), (1, .int seed), (2, .int bend), (3, .int sum), (4, .int (nI 17))] []
            refine j_iload C 4 rfl dX1_sow_30 rfl ?_
            refine j_bipush C 17 dX1_sow_32 (by decide) rfl ?_
            refine j_icmp_ge C 78 dX1_sow_34 (by decide) rfl (fun _ => ?_) (fun c_5 => absurd (nI_le (a := 17) (b := 17) (by decide) (by decide)) c_5)
            exact j_lv [0, 1, 2, 3] rfl E
          · rintro i ⟨sum, siz⟩ hi K
            show J p l e (rmk 0 0) s m args below meth c D A 5 0 0 Q (mW h q dZ dB siz shu one two) 30 [(0, .ref h), (1, .int seed), (2, .int bend), (3, .int sum), (4, .int (nI i))] []
            refine j_iload C 4 rfl dX1_sow_30 rfl ?_
            refine j_bipush C 17 dX1_sow_32 (by decide) rfl ?_
            refine j_icmp_ge C 78 dX1_sow_34 (by decide) rfl (fun c_6 => absurd c_6 (nI_ge (a := i) (b := 17) hi (by decide))) (fun _ => ?_)
            refine j_aload_n C 0 rfl rfl dX1_sow_37 rfl ?_
            refine j_get1 C 0 rfl (by decide) q170 rfl rfl dX1_sow_38 rfl ?_
            refine j_iload C 4 rfl dX1_sow_41 rfl ?_
            refine j_iload_n C 1 rfl rfl dX1_sow_43 rfl ?_
            refine j_bipush C 7 dX1_sow_44 (by decide) rfl ?_
            refine j_iload C 4 rfl dX1_sow_46 rfl ?_
            refine j_imul C dX1_sow_48 rfl ?_
            refine j_iadd C dX1_sow_49 rfl ?_
            refine j_iload C 4 rfl dX1_sow_50 rfl ?_
            refine j_iload C 4 rfl dX1_sow_52 rfl ?_
            refine j_imul C dX1_sow_54 rfl ?_
            refine j_iload_n C 2 rfl rfl dX1_sow_55 rfl ?_
            refine j_imul C dX1_sow_56 rfl ?_
            refine j_iadd C dX1_sow_57 rfl ?_
            refine j_bipush C 21 dX1_sow_58 (by decide) rfl ?_
            refine j_irem C (by decide) dX1_sow_60 rfl ?_
            refine j_iast (k := i) C 1 (mW h q dZ dB (upd siz i (((seed + (7 * (nI i))) + (((nI i) * (nI i)) * bend)) - ((seed + (7 * (nI i))) + (((nI i) * (nI i)) * bend)) / 21 * 21)) shu one two) rfl rfl hi (by decide) rfl dX1_sow_61 rfl ?_
            refine j_iload_n C 3 rfl rfl dX1_sow_62 rfl ?_
            refine j_aload_n C 0 rfl rfl dX1_sow_63 rfl ?_
            refine j_get1 C 0 rfl (by decide) q170 rfl rfl dX1_sow_64 rfl ?_
            refine j_iload C 4 rfl dX1_sow_67 rfl ?_
            refine j_iald (k := i) C 1 rfl rfl hi (by decide) dX1_sow_69 rfl ?_
            refine j_iadd C dX1_sow_70 rfl ?_
            refine j_istore_n C [(3, .int (sum + ((upd siz i (((seed + (7 * (nI i))) + (((nI i) * (nI i)) * bend)) - ((seed + (7 * (nI i))) + (((nI i) * (nI i)) * bend)) / 21 * 21)) i))), (0, .ref h), (1, .int seed), (2, .int bend), (4, .int (nI i))] rfl (by decide) rfl dX1_sow_71 rfl ?_
            refine j_iinc C [(4, .int (nI (i + 1))), (3, .int (sum + ((upd siz i (((seed + (7 * (nI i))) + (((nI i) * (nI i)) * bend)) - ((seed + (7 * (nI i))) + (((nI i) * (nI i)) * bend)) / 21 * 21)) i))), (0, .ref h), (1, .int seed), (2, .int bend)] 4 rfl (nI_1 _) (by decide) rfl dX1_sow_72 rfl ?_
            refine j_goto C 30 dX1_sow_75 (by decide) ?_
            refine j_lv [2, 3, 4, 1, 0] (lv' := [(0, .ref h), (1, .int seed), (2, .int bend), (3, .int (sum + ((upd siz i (((seed + (7 * (nI i))) + (((nI i) * (nI i)) * bend)) - ((seed + (7 * (nI i))) + (((nI i) * (nI i)) * bend)) / 21 * 21)) i))), (4, .int (nI (i + 1)))]) rfl ?_
            exact K (sum + ((upd siz i (((seed + (7 * (nI i))) + (((nI i) * (nI i)) * bend)) - ((seed + (7 * (nI i))) + (((nI i) * (nI i)) * bend)) / 21 * 21)) i), upd siz i (((seed + (7 * (nI i))) + (((nI i) * (nI i)) * bend)) - ((seed + (7 * (nI i))) + (((nI i) * (nI i)) * bend)) / 21 * 21)) (rfl)
          show J p l e (rmk 0 0) s m args below meth c D A 5 0 0 Q (mW h q dZ dB ((m_sow_a_l seed bend 0 siz).2) shu one two) 78 [(0, .ref h), (1, .int seed), (2, .int bend), (3, .int ((m_sow_a_l seed bend 0 siz).1))] []
          refine j_iload_n C 3 rfl rfl dX1_sow_78 rfl ?_
          have T := T _ [(0, .ref h), (1, .int seed), (2, .int bend), (3, .int ((m_sow_a_l seed bend 0 siz).1))] dX1_sow_79
          rw [show m_sow siz seed bend = ((m_sow_a_l seed bend 0 siz).1, (m_sow_a_l seed bend 0 siz).2) from by unfold m_sow; rw [if_neg c_1]; rw [if_pos c_2]; rw [if_neg c_3]; rw [if_pos c_4]] at T
          exact T
        · refine j_bipush C (-2) dX1_sow_22 (by decide) rfl ?_
          have T := T _ [(0, .ref h), (1, .int seed), (2, .int bend)] dX1_sow_24
          rw [show m_sow siz seed bend = ((-2), siz) from by unfold m_sow; rw [if_neg c_1]; rw [if_pos c_2]; rw [if_neg c_3]; rw [if_neg c_4]] at T
          exact T
    · refine j_iconst C (-1) dX1_sow_10 (by decide) rfl ?_
      have T := T _ [(0, .ref h), (1, .int seed), (2, .int bend)] dX1_sow_11
      rw [show m_sow siz seed bend = ((-1), siz) from by unfold m_sow; rw [if_neg c_1]; rw [if_neg c_2]] at T
      exact T
def m_close (shu : Nat → Int32) (street : Int32) (flag : Int32) : Int32 × (Nat → Int32) := (if (m_badStreet street) = 0 then (if (shu street.toNatClampNeg) = 0 then (if flag = 0 then (0, upd shu street.toNatClampNeg 0) else (0, upd shu street.toNatClampNeg 1)) else (if flag = 0 then (1, upd shu street.toNatClampNeg 0) else (1, upd shu street.toNatClampNeg 1))) else ((-1), shu))
theorem ds_X1_close : dsc yX1_close 2 := by unfold dsc; decide +kernel
set_option maxHeartbeats 4000000 in
theorem met_X1_close (l : Launch) (D : va_G) (h : Nat) (q : Nat → Nat) (dZ dB : ClassId) (siz shu one two : Nat → Int32) (street : Int32) (flag : Int32) : Ctd l yX1_close cX1_close 4 (some .int) (rmk 1 21) [.ref h, .int street, .int flag] D (tyZ dZ dB) (mW h q dZ dB siz shu one two) (some (.int ((m_close shu street flag).1))) (mW h q dZ dB siz ((m_close shu street flag).2) one two) := by
  refine Ctd.ofJi (by decide) (Nat.le_of_ble_eq_true rfl) ?_
  intro p e s m args below meth c A Q C T
  show J p l e (rmk 1 21) s m args below meth c D A 4 0 0 Q (mW h q dZ dB siz shu one two) 0 [(0, .ref h), (1, .int street), (2, .int flag)] []
  refine j_aload_n C 0 rfl rfl dX1_close_0 rfl ?_
  refine j_iload_n C 1 rfl rfl dX1_close_1 rfl ?_
  refine j_callV C (met_X1_badStreet l D h q dZ dB siz shu one two street) q187 q189 qs8 q16 q190 ds_X1_badStreet ⟨rfl, rfl⟩ ⟨Nat.le_of_ble_eq_true rfl, Nat.le_of_ble_eq_true rfl⟩ rfl (rest := []) rfl rfl rfl rfl (Nat.le_of_ble_eq_true rfl) ⟨Nat.zero_le _, Nat.zero_le _⟩ dX1_close_2 rfl (st' := [.int (m_badStreet street)]) rfl ?_
  refine j_if_eq C 10 dX1_close_5 (by decide) rfl (fun c_1 => ?_) (fun c_1 => ?_)
  · have hstreet1 := badStreet_in c_1
    refine j_lve (lv' := [(0, .ref h), (1, .int (nI street.toNatClampNeg)), (2, .int flag)]) (by rw [← hstreet1.1]) ?_
    refine j_aload_n C 0 rfl rfl dX1_close_10 rfl ?_
    refine j_get1 C 1 rfl (by decide) q171 rfl rfl dX1_close_11 rfl ?_
    refine j_iload_n C 1 rfl rfl dX1_close_14 rfl ?_
    refine j_zald (k := street.toNatClampNeg) C 2 rfl rfl hstreet1.2 (by decide) dX1_close_15 rfl ?_
    refine j_if_eq C 23 dX1_close_16 (by decide) rfl (fun c_2 => ?_) (fun c_2 => ?_)
    · refine j_iconst C 0 dX1_close_23 (by decide) rfl ?_
      refine j_istore_n C [(3, .int 0), (0, .ref h), (1, .int (nI street.toNatClampNeg)), (2, .int flag)] rfl (by decide) rfl dX1_close_24 rfl ?_
      refine j_aload_n C 1 rfl rfl dX1_close_25 rfl ?_
      refine j_get1 C 1 rfl (by decide) q171 rfl rfl dX1_close_26 rfl ?_
      refine j_iload_n C 2 rfl rfl dX1_close_29 rfl ?_
      refine j_iload_n C 3 rfl rfl dX1_close_30 rfl ?_
      refine j_if_eq C 38 dX1_close_31 (by decide) rfl (fun c_3 => ?_) (fun c_3 => ?_)
      · refine j_iconst C 0 dX1_close_38 (by decide) rfl ?_
        refine j_zast (k := street.toNatClampNeg) C 2 (mW h q dZ dB siz (upd shu street.toNatClampNeg 0) one two) rfl rfl hstreet1.2 (by decide) (by decide) rfl dX1_close_39 rfl ?_
        refine j_iload_n C 0 rfl rfl dX1_close_40 rfl ?_
        have T := T _ [(3, .int 0), (0, .ref h), (1, .int (nI street.toNatClampNeg)), (2, .int flag)] dX1_close_41
        rw [show m_close shu street flag = (0, upd shu street.toNatClampNeg 0) from by unfold m_close; rw [if_pos c_1]; rw [if_pos c_2]; rw [if_pos c_3]] at T
        exact T
      · refine j_iconst C 1 dX1_close_34 (by decide) rfl ?_
        refine j_goto C 39 dX1_close_35 (by decide) ?_
        refine j_zast (k := street.toNatClampNeg) C 2 (mW h q dZ dB siz (upd shu street.toNatClampNeg 1) one two) rfl rfl hstreet1.2 (by decide) (by decide) rfl dX1_close_39 rfl ?_
        refine j_iload_n C 0 rfl rfl dX1_close_40 rfl ?_
        have T := T _ [(3, .int 0), (0, .ref h), (1, .int (nI street.toNatClampNeg)), (2, .int flag)] dX1_close_41
        rw [show m_close shu street flag = (0, upd shu street.toNatClampNeg 1) from by unfold m_close; rw [if_pos c_1]; rw [if_pos c_2]; rw [if_neg c_3]] at T
        exact T
    · refine j_iconst C 1 dX1_close_19 (by decide) rfl ?_
      refine j_goto C 24 dX1_close_20 (by decide) ?_
      refine j_istore_n C [(3, .int 1), (0, .ref h), (1, .int (nI street.toNatClampNeg)), (2, .int flag)] rfl (by decide) rfl dX1_close_24 rfl ?_
      refine j_aload_n C 1 rfl rfl dX1_close_25 rfl ?_
      refine j_get1 C 1 rfl (by decide) q171 rfl rfl dX1_close_26 rfl ?_
      refine j_iload_n C 2 rfl rfl dX1_close_29 rfl ?_
      refine j_iload_n C 3 rfl rfl dX1_close_30 rfl ?_
      refine j_if_eq C 38 dX1_close_31 (by decide) rfl (fun c_4 => ?_) (fun c_4 => ?_)
      · refine j_iconst C 0 dX1_close_38 (by decide) rfl ?_
        refine j_zast (k := street.toNatClampNeg) C 2 (mW h q dZ dB siz (upd shu street.toNatClampNeg 0) one two) rfl rfl hstreet1.2 (by decide) (by decide) rfl dX1_close_39 rfl ?_
        refine j_iload_n C 0 rfl rfl dX1_close_40 rfl ?_
        have T := T _ [(3, .int 1), (0, .ref h), (1, .int (nI street.toNatClampNeg)), (2, .int flag)] dX1_close_41
        rw [show m_close shu street flag = (1, upd shu street.toNatClampNeg 0) from by unfold m_close; rw [if_pos c_1]; rw [if_neg c_2]; rw [if_pos c_4]] at T
        exact T
      · refine j_iconst C 1 dX1_close_34 (by decide) rfl ?_
        refine j_goto C 39 dX1_close_35 (by decide) ?_
        refine j_zast (k := street.toNatClampNeg) C 2 (mW h q dZ dB siz (upd shu street.toNatClampNeg 1) one two) rfl rfl hstreet1.2 (by decide) (by decide) rfl dX1_close_39 rfl ?_
        refine j_iload_n C 0 rfl rfl dX1_close_40 rfl ?_
        have T := T _ [(3, .int 1), (0, .ref h), (1, .int (nI street.toNatClampNeg)), (2, .int flag)] dX1_close_41
        rw [show m_close shu street flag = (1, upd shu street.toNatClampNeg 1) from by unfold m_close; rw [if_pos c_1]; rw [if_neg c_2]; rw [if_neg c_4]] at T
        exact T
  · refine j_iconst C (-1) dX1_close_8 (by decide) rfl ?_
    have T := T _ [(0, .ref h), (1, .int street), (2, .int flag)] dX1_close_9
    rw [show m_close shu street flag = ((-1), shu) from by unfold m_close; rw [if_neg c_1]] at T
    exact T
def m_capacity (siz : Nat → Int32) (street : Int32) : Int32 := (if (m_badStreet street) = 0 then siz street.toNatClampNeg else (-1))
theorem ds_X1_capacity : dsc yX1_capacity 1 := by unfold dsc; decide +kernel
set_option maxHeartbeats 4000000 in
theorem met_X1_capacity (l : Launch) (D : va_G) (h : Nat) (q : Nat → Nat) (dZ dB : ClassId) (siz shu one two : Nat → Int32) (street : Int32) : Ctd l yX1_capacity cX1_capacity 2 (some .int) (rmk 1 21) [.ref h, .int street] D (tyZ dZ dB) (mW h q dZ dB siz shu one two) (some (.int (m_capacity siz street))) (mW h q dZ dB siz shu one two) := by
  refine Ctd.ofJi (by decide) (Nat.le_of_ble_eq_true rfl) ?_
  intro p e s m args below meth c A Q C T
  show J p l e (rmk 1 21) s m args below meth c D A 2 0 0 Q (mW h q dZ dB siz shu one two) 0 [(0, .ref h), (1, .int street)] []
  refine j_aload_n C 0 rfl rfl dX1_capacity_0 rfl ?_
  refine j_iload_n C 1 rfl rfl dX1_capacity_1 rfl ?_
  refine j_callV C (met_X1_badStreet l D h q dZ dB siz shu one two street) q187 q189 qs8 q16 q190 ds_X1_badStreet ⟨rfl, rfl⟩ ⟨Nat.le_of_ble_eq_true rfl, Nat.le_of_ble_eq_true rfl⟩ rfl (rest := []) rfl rfl rfl rfl (Nat.le_of_ble_eq_true rfl) ⟨Nat.zero_le _, Nat.zero_le _⟩ dX1_capacity_2 rfl (st' := [.int (m_badStreet street)]) rfl ?_
  refine j_if_eq C 12 dX1_capacity_5 (by decide) rfl (fun c_1 => ?_) (fun c_1 => ?_)
  · have hstreet1 := badStreet_in c_1
    refine j_lve (lv' := [(0, .ref h), (1, .int (nI street.toNatClampNeg))]) (by rw [← hstreet1.1]) ?_
    refine j_aload_n C 0 rfl rfl dX1_capacity_12 rfl ?_
    refine j_get1 C 0 rfl (by decide) q170 rfl rfl dX1_capacity_13 rfl ?_
    refine j_iload_n C 1 rfl rfl dX1_capacity_16 rfl ?_
    refine j_iald (k := street.toNatClampNeg) C 1 rfl rfl hstreet1.2 (by decide) dX1_capacity_17 rfl ?_
    have T := T _ [(0, .ref h), (1, .int (nI street.toNatClampNeg))] dX1_capacity_18
    rw [show m_capacity siz street = siz street.toNatClampNeg from by unfold m_capacity; rw [if_pos c_1]] at T
    exact T
  · refine j_iconst C (-1) dX1_capacity_8 (by decide) rfl ?_
    refine j_goto C 18 dX1_capacity_9 (by decide) ?_
    have T := T _ [(0, .ref h), (1, .int street)] dX1_capacity_18
    rw [show m_capacity siz street = (-1) from by unfold m_capacity; rw [if_neg c_1]] at T
    exact T
def m_between_a_s (one : Nat → Int32) (two : Nat → Int32) (a : Int32) (b : Int32) (i : Nat)  : (Unit) ⊕ (Int32) := (if (one i) = a then (if (two i) = b then (.inr (nI i)) else (if (one i) = b then (if (two i) = a then (.inr (nI i)) else (.inl ())) else (.inl ()))) else (if (one i) = b then (if (two i) = a then (.inr (nI i)) else (.inl ())) else (.inl ())))
def m_between_a_l (one : Nat → Int32) (two : Nat → Int32) (a : Int32) (b : Int32)  : (Unit) ⊕ (Int32) := lpE (fun i z => m_between_a_s one two a b i ) 17 0 ()
def m_between (one : Nat → Int32) (two : Nat → Int32) (a : Int32) (b : Int32) : Int32 := (if (m_bad a) = 0 then (if (m_bad b) = 0 then (match m_between_a_l one two a b  with | .inl () => (-2) | .inr r_11 => r_11) else (-1)) else (-1))
theorem ds_X1_between : dsc yX1_between 2 := by unfold dsc; decide +kernel
set_option maxHeartbeats 4000000 in
theorem met_X1_between (l : Launch) (D : va_G) (h : Nat) (q : Nat → Nat) (dZ dB : ClassId) (siz shu one two : Nat → Int32) (a : Int32) (b : Int32) : Ctd l yX1_between cX1_between 4 (some .int) (rmk 1 21) [.ref h, .int a, .int b] D (tyZ dZ dB) (mW h q dZ dB siz shu one two) (some (.int (m_between one two a b))) (mW h q dZ dB siz shu one two) := by
  refine Ctd.ofJi (by decide) (Nat.le_of_ble_eq_true rfl) ?_
  intro p e s m args below meth c A Q C T
  show J p l e (rmk 1 21) s m args below meth c D A 4 0 0 Q (mW h q dZ dB siz shu one two) 0 [(0, .ref h), (1, .int a), (2, .int b)] []
  refine j_aload_n C 0 rfl rfl dX1_between_0 rfl ?_
  refine j_iload_n C 1 rfl rfl dX1_between_1 rfl ?_
  refine j_callV C (met_X1_bad l D h q dZ dB siz shu one two a) q207 q209 qs9 q16 q210 ds_X1_bad ⟨rfl, rfl⟩ ⟨Nat.le_of_ble_eq_true rfl, Nat.le_of_ble_eq_true rfl⟩ rfl (rest := []) rfl rfl rfl rfl (Nat.le_of_ble_eq_true rfl) ⟨Nat.zero_le _, Nat.zero_le _⟩ dX1_between_2 rfl (st' := [.int (m_bad a)]) rfl ?_
  refine j_if_ne C 16 dX1_between_5 (by decide) rfl (fun c_1 => ?_) (fun c_1 => ?_)
  · refine j_iconst C (-1) dX1_between_16 (by decide) rfl ?_
    have T := T _ [(0, .ref h), (1, .int a), (2, .int b)] dX1_between_17
    rw [show m_between one two a b = (-1) from by unfold m_between; rw [if_neg c_1]] at T
    exact T
  · refine j_aload_n C 0 rfl rfl dX1_between_8 rfl ?_
    refine j_iload_n C 2 rfl rfl dX1_between_9 rfl ?_
    refine j_callV C (met_X1_bad l D h q dZ dB siz shu one two b) q207 q209 qs9 q16 q210 ds_X1_bad ⟨rfl, rfl⟩ ⟨Nat.le_of_ble_eq_true rfl, Nat.le_of_ble_eq_true rfl⟩ rfl (rest := []) rfl rfl rfl rfl (Nat.le_of_ble_eq_true rfl) ⟨Nat.zero_le _, Nat.zero_le _⟩ dX1_between_10 rfl (st' := [.int (m_bad b)]) rfl ?_
    refine j_if_eq C 18 dX1_between_13 (by decide) rfl (fun c_2 => ?_) (fun c_2 => ?_)
    · refine j_iconst C 0 dX1_between_18 (by decide) rfl ?_
      refine j_istore_n C [(3, .int 0), (0, .ref h), (1, .int a), (2, .int b)] rfl (by decide) rfl dX1_between_19 rfl ?_
      refine j_lv [1, 2, 3, 0] (lv' := [(0, .ref h), (1, .int a), (2, .int b), (3, .int 0)]) rfl ?_
      refine lpE_rule (σ := Unit) (ρ := Int32) (fun i z => m_between_a_s one two a b i ) 17 (fun i z => J p l e (rmk 1 21) s m args below meth c D A 4 0 0 Q (mW h q dZ dB siz shu one two) 20 [(0, .ref h), (1, .int a), (2, .int b), (3, .int (nI i))] []) (fun z => J p l e (rmk 1 21) s m args below meth c D A 4 0 0 Q (mW h q dZ dB siz shu one two) 74 [(0, .ref h), (1, .int a), (2, .int b)] []) (fun r => ∀ pc lv, decode cX1_between pc = .ok (.ireturn, 1) → J p l e (rmk 1 21) s m args below meth c D A 4 0 0 Q (mW h q dZ dB siz shu one two) pc lv [.int r]) (fun _ _ => True) ?_ ?_ (fun _ _ _ _ _ _ => trivial) 17 0 () (Nat.zero_add 17) trivial ?_ ?_
      · rintro ⟨⟩ - E
        show J p l e (rmk 1 21) s m args below meth c D A 4 0 0 Q (mW h q dZ dB siz shu one two) 20 [(0, .ref h), (1, .int a), (2, .int b), (3, .int (nI 17))] []
        refine j_iload_n C 3 rfl rfl dX1_between_20 rfl ?_
        refine j_bipush C 17 dX1_between_21 (by decide) rfl ?_
        refine j_icmp_ge C 74 dX1_between_23 (by decide) rfl (fun _ => ?_) (fun c_3 => absurd (nI_le (a := 17) (b := 17) (by decide) (by decide)) c_3)
        exact j_lv [0, 1, 2] rfl E
      · rintro i ⟨⟩ hi hI K K2
        show J p l e (rmk 1 21) s m args below meth c D A 4 0 0 Q (mW h q dZ dB siz shu one two) 20 [(0, .ref h), (1, .int a), (2, .int b), (3, .int (nI i))] []
        refine j_iload_n C 3 rfl rfl dX1_between_20 rfl ?_
        refine j_bipush C 17 dX1_between_21 (by decide) rfl ?_
        refine j_icmp_ge C 74 dX1_between_23 (by decide) rfl (fun c_4 => absurd c_4 (nI_ge (a := i) (b := 17) hi (by decide))) (fun _ => ?_)
        refine j_aload_n C 0 rfl rfl dX1_between_26 rfl ?_
        refine j_get1 C 2 rfl (by decide) q172 rfl rfl dX1_between_27 rfl ?_
        refine j_iload_n C 3 rfl rfl dX1_between_30 rfl ?_
        refine j_iald (k := i) C 3 rfl rfl hi (by decide) dX1_between_31 rfl ?_
        refine j_iload_n C 1 rfl rfl dX1_between_32 rfl ?_
        refine j_icmp_ne C 46 dX1_between_33 (by decide) rfl (fun c_5 => ?_) (fun c_5 => ?_)
        · refine j_aload_n C 0 rfl rfl dX1_between_46 rfl ?_
          refine j_get1 C 2 rfl (by decide) q172 rfl rfl dX1_between_47 rfl ?_
          refine j_iload_n C 3 rfl rfl dX1_between_50 rfl ?_
          refine j_iald (k := i) C 3 rfl rfl hi (by decide) dX1_between_51 rfl ?_
          refine j_iload_n C 2 rfl rfl dX1_between_52 rfl ?_
          refine j_icmp_ne C 68 dX1_between_53 (by decide) rfl (fun c_6 => ?_) (fun c_6 => ?_)
          · refine j_iinc C [(3, .int (nI (i + 1))), (0, .ref h), (1, .int a), (2, .int b)] 3 rfl (nI_1 _) (by decide) rfl dX1_between_68 rfl ?_
            refine j_goto C 20 dX1_between_71 (by decide) ?_
            refine j_lv [1, 2, 3, 0] (lv' := [(0, .ref h), (1, .int a), (2, .int b), (3, .int (nI (i + 1)))]) rfl ?_
            exact K () (by show _ = m_between_a_s one two a b i ; unfold m_between_a_s; rw [if_neg c_5]; rw [if_neg c_6])
          · refine j_aload_n C 0 rfl rfl dX1_between_56 rfl ?_
            refine j_get1 C 3 rfl (by decide) q173 rfl rfl dX1_between_57 rfl ?_
            refine j_iload_n C 3 rfl rfl dX1_between_60 rfl ?_
            refine j_iald (k := i) C 4 rfl rfl hi (by decide) dX1_between_61 rfl ?_
            refine j_iload_n C 1 rfl rfl dX1_between_62 rfl ?_
            refine j_icmp_ne C 68 dX1_between_63 (by decide) rfl (fun c_7 => ?_) (fun c_7 => ?_)
            · refine j_iinc C [(3, .int (nI (i + 1))), (0, .ref h), (1, .int a), (2, .int b)] 3 rfl (nI_1 _) (by decide) rfl dX1_between_68 rfl ?_
              refine j_goto C 20 dX1_between_71 (by decide) ?_
              refine j_lv [1, 2, 3, 0] (lv' := [(0, .ref h), (1, .int a), (2, .int b), (3, .int (nI (i + 1)))]) rfl ?_
              exact K () (by show _ = m_between_a_s one two a b i ; unfold m_between_a_s; rw [if_neg c_5]; rw [if_pos c_6]; rw [if_neg c_7])
            · refine j_iload_n C 3 rfl rfl dX1_between_66 rfl ?_
              exact K2 (nI i) (by show _ = m_between_a_s one two a b i ; unfold m_between_a_s; rw [if_neg c_5]; rw [if_pos c_6]; rw [if_pos c_7]) _ _ dX1_between_67
        · refine j_aload_n C 0 rfl rfl dX1_between_36 rfl ?_
          refine j_get1 C 3 rfl (by decide) q173 rfl rfl dX1_between_37 rfl ?_
          refine j_iload_n C 3 rfl rfl dX1_between_40 rfl ?_
          refine j_iald (k := i) C 4 rfl rfl hi (by decide) dX1_between_41 rfl ?_
          refine j_iload_n C 2 rfl rfl dX1_between_42 rfl ?_
          refine j_icmp_eq C 66 dX1_between_43 (by decide) rfl (fun c_8 => ?_) (fun c_8 => ?_)
          · refine j_iload_n C 3 rfl rfl dX1_between_66 rfl ?_
            exact K2 (nI i) (by show _ = m_between_a_s one two a b i ; unfold m_between_a_s; rw [if_pos c_5]; rw [if_pos c_8]) _ _ dX1_between_67
          · refine j_aload_n C 0 rfl rfl dX1_between_46 rfl ?_
            refine j_get1 C 2 rfl (by decide) q172 rfl rfl dX1_between_47 rfl ?_
            refine j_iload_n C 3 rfl rfl dX1_between_50 rfl ?_
            refine j_iald (k := i) C 3 rfl rfl hi (by decide) dX1_between_51 rfl ?_
            refine j_iload_n C 2 rfl rfl dX1_between_52 rfl ?_
            refine j_icmp_ne C 68 dX1_between_53 (by decide) rfl (fun c_9 => ?_) (fun c_9 => ?_)
            · refine j_iinc C [(3, .int (nI (i + 1))), (0, .ref h), (1, .int a), (2, .int b)] 3 rfl (nI_1 _) (by decide) rfl dX1_between_68 rfl ?_
              refine j_goto C 20 dX1_between_71 (by decide) ?_
              refine j_lv [1, 2, 3, 0] (lv' := [(0, .ref h), (1, .int a), (2, .int b), (3, .int (nI (i + 1)))]) rfl ?_
              exact K () (by show _ = m_between_a_s one two a b i ; unfold m_between_a_s; rw [if_pos c_5]; rw [if_neg c_8]; rw [if_neg c_9])
            · refine j_aload_n C 0 rfl rfl dX1_between_56 rfl ?_
              refine j_get1 C 3 rfl (by decide) q173 rfl rfl dX1_between_57 rfl ?_
              refine j_iload_n C 3 rfl rfl dX1_between_60 rfl ?_
              refine j_iald (k := i) C 4 rfl rfl hi (by decide) dX1_between_61 rfl ?_
              refine j_iload_n C 1 rfl rfl dX1_between_62 rfl ?_
              refine j_icmp_ne C 68 dX1_between_63 (by decide) rfl (fun c_10 => ?_) (fun c_10 => ?_)
              · refine j_iinc C [(3, .int (nI (i + 1))), (0, .ref h), (1, .int a), (2, .int b)] 3 rfl (nI_1 _) (by decide) rfl dX1_between_68 rfl ?_
                refine j_goto C 20 dX1_between_71 (by decide) ?_
                refine j_lv [1, 2, 3, 0] (lv' := [(0, .ref h), (1, .int a), (2, .int b), (3, .int (nI (i + 1)))]) rfl ?_
                exact K () (by show _ = m_between_a_s one two a b i ; unfold m_between_a_s; rw [if_pos c_5]; rw [if_neg c_8]; rw [if_pos c_9]; rw [if_neg c_10])
              · refine j_iload_n C 3 rfl rfl dX1_between_66 rfl ?_
                exact K2 (nI i) (by show _ = m_between_a_s one two a b i ; unfold m_between_a_s; rw [if_pos c_5]; rw [if_neg c_8]; rw [if_pos c_9]; rw [if_pos c_10]) _ _ dX1_between_67
      · intro s_11 e_11 hE
        have e_11 : m_between_a_l one two a b  = .inl () := e_11
        show J p l e (rmk 1 21) s m args below meth c D A 4 0 0 Q (mW h q dZ dB siz shu one two) 74 [(0, .ref h), (1, .int a), (2, .int b)] []
        refine j_bipush C (-2) dX1_between_74 (by decide) rfl ?_
        have T := T _ [(0, .ref h), (1, .int a), (2, .int b)] dX1_between_76
        rw [show m_between one two a b = (-2) from by unfold m_between; rw [if_pos c_1]; rw [if_pos c_2]; rw [e_11]; try dsimp only] at T
        exact T
      · intro r_11 e_11
        have e_11 : m_between_a_l one two a b  = .inr r_11 := e_11
        intro pc lv d
        have T := T pc lv d
        rw [show m_between one two a b = r_11 from by unfold m_between; rw [if_pos c_1]; rw [if_pos c_2]; rw [e_11]; try dsimp only] at T
        exact T
    · refine j_iconst C (-1) dX1_between_16 (by decide) rfl ?_
      have T := T _ [(0, .ref h), (1, .int a), (2, .int b)] dX1_between_17
      rw [show m_between one two a b = (-1) from by unfold m_between; rw [if_pos c_1]; rw [if_neg c_2]] at T
      exact T
end
section
set_option maxRecDepth 100000
def m_flow (siz : Nat → Int32) (shu : Nat → Int32) (one : Nat → Int32) (two : Nat → Int32) : Int32 := m_least siz shu one two 0 1
theorem ds_X1_flow : dsc yX1_flow 0 := by unfold dsc; decide +kernel
set_option maxHeartbeats 4000000 in
theorem met_X1_flow (l : Launch) (D : va_G) (h : Nat) (q : Nat → Nat) (dZ dB : ClassId) (siz shu one two : Nat → Int32)  : Ctd l yX1_flow cX1_flow 1 (some .int) (rmk 3 69) [.ref h] D (tyZ dZ dB) (mW h q dZ dB siz shu one two) (some (.int (m_flow siz shu one two))) (mW h q dZ dB siz shu one two) := by
  refine Ctd.ofJi (by decide) (Nat.le_of_ble_eq_true rfl) ?_
  intro p e s m args below meth c A Q C T
  show J p l e (rmk 3 69) s m args below meth c D A 1 0 0 Q (mW h q dZ dB siz shu one two) 0 [(0, .ref h)] []
  refine j_aload_n C 0 rfl rfl dX1_flow_0 rfl ?_
  refine j_iconst C 0 dX1_flow_1 (by decide) rfl ?_
  refine j_iconst C 1 dX1_flow_2 (by decide) rfl ?_
  refine j_callV C (met_X1_least l D h q dZ dB siz shu one two 0 1) q215 q217 qs10 q16 q218 ds_X1_least ⟨rfl, rfl⟩ ⟨Nat.le_of_ble_eq_true rfl, Nat.le_of_ble_eq_true rfl⟩ rfl (rest := []) rfl rfl rfl rfl (Nat.le_of_ble_eq_true rfl) ⟨Nat.zero_le _, Nat.zero_le _⟩ dX1_flow_3 rfl (st' := [.int (m_least siz shu one two 0 1)]) rfl ?_
  have T := T _ [(0, .ref h)] dX1_flow_6
  rw [show m_flow siz shu one two = m_least siz shu one two 0 1 from rfl] at T
  exact T
def m_weight (siz : Nat → Int32) (shu : Nat → Int32) (one : Nat → Int32) (two : Nat → Int32) (cut : Int32) : Int32 := (if cut < 0 then (-1) else (if cut ≤ 4095 then (if (cut &&& 1) = 0 then (-2) else (if cut ≤ 2047 then m_weigh siz shu one two cut else (-3))) else (-1)))
theorem ds_X1_weight : dsc yX1_weight 1 := by unfold dsc; decide +kernel
set_option maxHeartbeats 4000000 in
theorem met_X1_weight (l : Launch) (D : va_G) (h : Nat) (q : Nat → Nat) (dZ dB : ClassId) (siz shu one two : Nat → Int32) (cut : Int32) : Ctd l yX1_weight cX1_weight 2 (some .int) (rmk 2 44) [.ref h, .int cut] D (tyZ dZ dB) (mW h q dZ dB siz shu one two) (some (.int (m_weight siz shu one two cut))) (mW h q dZ dB siz shu one two) := by
  refine Ctd.ofJi (by decide) (Nat.le_of_ble_eq_true rfl) ?_
  intro p e s m args below meth c A Q C T
  show J p l e (rmk 2 44) s m args below meth c D A 2 0 0 Q (mW h q dZ dB siz shu one two) 0 [(0, .ref h), (1, .int cut)] []
  refine j_iload_n C 1 rfl rfl dX1_weight_0 rfl ?_
  refine j_if_lt C 11 dX1_weight_1 (by decide) rfl (fun c_1 => ?_) (fun c_1 => ?_)
  · refine j_iconst C (-1) dX1_weight_11 (by decide) rfl ?_
    have T := T _ [(0, .ref h), (1, .int cut)] dX1_weight_12
    rw [show m_weight siz shu one two cut = (-1) from by unfold m_weight; rw [if_pos c_1]] at T
    exact T
  · refine j_iload_n C 1 rfl rfl dX1_weight_4 rfl ?_
    refine j_sipush C 4095 dX1_weight_5 (by decide) rfl ?_
    refine j_icmp_le C 13 dX1_weight_8 (by decide) rfl (fun c_2 => ?_) (fun c_2 => ?_)
    · refine j_iload_n C 1 rfl rfl dX1_weight_13 rfl ?_
      refine j_iconst C 1 dX1_weight_14 (by decide) rfl ?_
      refine j_iand C dX1_weight_15 rfl ?_
      refine j_if_ne C 22 dX1_weight_16 (by decide) rfl (fun c_3 => ?_) (fun c_3 => ?_)
      · refine j_iload_n C 1 rfl rfl dX1_weight_22 rfl ?_
        refine j_sipush C 2047 dX1_weight_23 (by decide) rfl ?_
        refine j_icmp_le C 32 dX1_weight_26 (by decide) rfl (fun c_4 => ?_) (fun c_4 => ?_)
        · refine j_aload_n C 0 rfl rfl dX1_weight_32 rfl ?_
          refine j_iload_n C 1 rfl rfl dX1_weight_33 rfl ?_
          refine j_callV C (met_X1_weigh l D h q dZ dB siz shu one two cut) q219 q221 qs11 q16 q222 ds_X1_weigh ⟨rfl, rfl⟩ ⟨Nat.le_of_ble_eq_true rfl, Nat.le_of_ble_eq_true rfl⟩ rfl (rest := []) rfl rfl rfl rfl (Nat.le_of_ble_eq_true rfl) ⟨Nat.zero_le _, Nat.zero_le _⟩ dX1_weight_34 rfl (st' := [.int (m_weigh siz shu one two cut)]) rfl ?_
          have T := T _ [(0, .ref h), (1, .int cut)] dX1_weight_37
          rw [show m_weight siz shu one two cut = m_weigh siz shu one two cut from by unfold m_weight; rw [if_neg c_1]; rw [if_pos c_2]; rw [if_neg c_3]; rw [if_pos c_4]] at T
          exact T
        · refine j_bipush C (-3) dX1_weight_29 (by decide) rfl ?_
          have T := T _ [(0, .ref h), (1, .int cut)] dX1_weight_31
          rw [show m_weight siz shu one two cut = (-3) from by unfold m_weight; rw [if_neg c_1]; rw [if_pos c_2]; rw [if_neg c_3]; rw [if_neg c_4]] at T
          exact T
      · refine j_bipush C (-2) dX1_weight_19 (by decide) rfl ?_
        have T := T _ [(0, .ref h), (1, .int cut)] dX1_weight_21
        rw [show m_weight siz shu one two cut = (-2) from by unfold m_weight; rw [if_neg c_1]; rw [if_pos c_2]; rw [if_pos c_3]] at T
        exact T
    · refine j_iconst C (-1) dX1_weight_11 (by decide) rfl ?_
      have T := T _ [(0, .ref h), (1, .int cut)] dX1_weight_12
      rw [show m_weight siz shu one two cut = (-1) from by unfold m_weight; rw [if_neg c_1]; rw [if_neg c_2]] at T
      exact T
def m_first_a_s (siz : Nat → Int32) (shu : Nat → Int32) (one : Nat → Int32) (two : Nat → Int32) (w : Int32) (i : Nat) (acc : Int32) : Int32 := (if (m_weigh siz shu one two (nI (2 * i + 1))) = w then acc &&& (nI (2 * i + 1)) else acc)
def m_first_a_l (siz : Nat → Int32) (shu : Nat → Int32) (one : Nat → Int32) (two : Nat → Int32) (w : Int32) (acc : Int32) : Int32 := lpF (fun i z => m_first_a_s siz shu one two w i z) 1024 0 acc
def m_first (siz : Nat → Int32) (shu : Nat → Int32) (one : Nat → Int32) (two : Nat → Int32) : Int32 := m_first_a_l siz shu one two (m_least siz shu one two 0 1) 2047
theorem ds_X1_first : dsc yX1_first 0 := by unfold dsc; decide +kernel
set_option maxHeartbeats 4000000 in
theorem met_X1_first (l : Launch) (D : va_G) (h : Nat) (q : Nat → Nat) (dZ dB : ClassId) (siz shu one two : Nat → Int32)  : Ctd l yX1_first cX1_first 4 (some .int) (rmk 3 69) [.ref h] D (tyZ dZ dB) (mW h q dZ dB siz shu one two) (some (.int (m_first siz shu one two))) (mW h q dZ dB siz shu one two) := by
  refine Ctd.ofJi (by decide) (Nat.le_of_ble_eq_true rfl) ?_
  intro p e s m args below meth c A Q C T
  show J p l e (rmk 3 69) s m args below meth c D A 4 0 0 Q (mW h q dZ dB siz shu one two) 0 [(0, .ref h)] []
  refine j_aload_n C 0 rfl rfl dX1_first_0 rfl ?_
  refine j_iconst C 0 dX1_first_1 (by decide) rfl ?_
  refine j_iconst C 1 dX1_first_2 (by decide) rfl ?_
  refine j_callV C (met_X1_least l D h q dZ dB siz shu one two 0 1) q215 q217 qs10 q16 q218 ds_X1_least ⟨rfl, rfl⟩ ⟨Nat.le_of_ble_eq_true rfl, Nat.le_of_ble_eq_true rfl⟩ rfl (rest := []) rfl rfl rfl rfl (Nat.le_of_ble_eq_true rfl) ⟨Nat.zero_le _, Nat.zero_le _⟩ dX1_first_3 rfl (st' := [.int (m_least siz shu one two 0 1)]) rfl ?_
  refine j_istore_n C [(1, .int (m_least siz shu one two 0 1)), (0, .ref h)] rfl (by decide) rfl dX1_first_6 rfl ?_
  refine j_sipush C 2047 dX1_first_7 (by decide) rfl ?_
  refine j_istore_n C [(2, .int 2047), (1, .int (m_least siz shu one two 0 1)), (0, .ref h)] rfl (by decide) rfl dX1_first_10 rfl ?_
  refine j_iconst C 1 dX1_first_11 (by decide) rfl ?_
  refine j_istore_n C [(3, .int 1), (2, .int 2047), (1, .int (m_least siz shu one two 0 1)), (0, .ref h)] rfl (by decide) rfl dX1_first_12 rfl ?_
  refine j_lv [3, 2, 1, 0] (lv' := [(0, .ref h), (1, .int (m_least siz shu one two 0 1)), (2, .int 2047), (3, .int 1)]) rfl ?_
  refine lpF_rule0 (σ := Int32) (fun i z => m_first_a_s siz shu one two (m_least siz shu one two 0 1) i z) 1024 (fun i z => J p l e (rmk 3 69) s m args below meth c D A 4 0 0 Q (mW h q dZ dB siz shu one two) 13 [(0, .ref h), (1, .int (m_least siz shu one two 0 1)), (2, .int z), (3, .int (nI (2 * i + 1)))] []) (fun z => J p l e (rmk 3 69) s m args below meth c D A 4 0 0 Q (mW h q dZ dB siz shu one two) 39 [(0, .ref h), (1, .int (m_least siz shu one two 0 1)), (2, .int z)] []) ?_ ?_ 2047 ?_
  · rintro acc E
    show J p l e (rmk 3 69) s m args below meth c D A 4 0 0 Q (mW h q dZ dB siz shu one two) 13 [(0, .ref h), (1, .int (m_least siz shu one two 0 1)), (2, .int acc), (3, .int (nI (2 * 1024 + 1)))] []
    refine j_iload_n C 3 rfl rfl dX1_first_13 rfl ?_
    refine j_sipush C 2048 dX1_first_14 (by decide) rfl ?_
    refine j_icmp_ge C 39 dX1_first_17 (by decide) rfl (fun _ => ?_) (fun c_1 => absurd (nI_le (a := 2048) (b := 2 * 1024 + 1) (by decide) (by decide)) c_1)
    exact j_lv [0, 1, 2] rfl E
  · rintro i acc hi K
    show J p l e (rmk 3 69) s m args below meth c D A 4 0 0 Q (mW h q dZ dB siz shu one two) 13 [(0, .ref h), (1, .int (m_least siz shu one two 0 1)), (2, .int acc), (3, .int (nI (2 * i + 1)))] []
    refine j_iload_n C 3 rfl rfl dX1_first_13 rfl ?_
    refine j_sipush C 2048 dX1_first_14 (by decide) rfl ?_
    refine j_icmp_ge C 39 dX1_first_17 (by decide) rfl (fun c_2 => absurd c_2 (nI_ge (a := 2 * i + 1) (b := 2048) (by omega) (by decide))) (fun _ => ?_)
    refine j_aload_n C 0 rfl rfl dX1_first_20 rfl ?_
    refine j_iload_n C 3 rfl rfl dX1_first_21 rfl ?_
    refine j_callV C (met_X1_weigh l D h q dZ dB siz shu one two (nI (2 * i + 1))) q219 q221 qs11 q16 q222 ds_X1_weigh ⟨rfl, rfl⟩ ⟨Nat.le_of_ble_eq_true rfl, Nat.le_of_ble_eq_true rfl⟩ rfl (rest := []) rfl rfl rfl rfl (Nat.le_of_ble_eq_true rfl) ⟨Nat.zero_le _, Nat.zero_le _⟩ dX1_first_22 rfl (st' := [.int (m_weigh siz shu one two (nI (2 * i + 1)))]) rfl ?_
    refine j_iload_n C 1 rfl rfl dX1_first_25 rfl ?_
    refine j_icmp_ne C 33 dX1_first_26 (by decide) rfl (fun c_3 => ?_) (fun c_3 => ?_)
    · refine j_iinc C [(3, .int (nI (2 * (i + 1) + 1))), (0, .ref h), (1, .int (m_least siz shu one two 0 1)), (2, .int acc)] 3 rfl (m_inc2 _) (by decide) rfl dX1_first_33 rfl ?_
      refine j_goto C 13 dX1_first_36 (by decide) ?_
      refine j_lv [1, 2, 3, 0] (lv' := [(0, .ref h), (1, .int (m_least siz shu one two 0 1)), (2, .int acc), (3, .int (nI (2 * (i + 1) + 1)))]) rfl ?_
      exact K acc (by show _ = m_first_a_s siz shu one two (m_least siz shu one two 0 1) i acc; unfold m_first_a_s; rw [if_neg c_3])
    · refine j_iload_n C 2 rfl rfl dX1_first_29 rfl ?_
      refine j_iload_n C 3 rfl rfl dX1_first_30 rfl ?_
      refine j_iand C dX1_first_31 rfl ?_
      refine j_istore_n C [(2, .int (acc &&& (nI (2 * i + 1)))), (0, .ref h), (1, .int (m_least siz shu one two 0 1)), (3, .int (nI (2 * i + 1)))] rfl (by decide) rfl dX1_first_32 rfl ?_
      refine j_iinc C [(3, .int (nI (2 * (i + 1) + 1))), (2, .int (acc &&& (nI (2 * i + 1)))), (0, .ref h), (1, .int (m_least siz shu one two 0 1))] 3 rfl (m_inc2 _) (by decide) rfl dX1_first_33 rfl ?_
      refine j_goto C 13 dX1_first_36 (by decide) ?_
      refine j_lv [2, 3, 1, 0] (lv' := [(0, .ref h), (1, .int (m_least siz shu one two 0 1)), (2, .int (acc &&& (nI (2 * i + 1)))), (3, .int (nI (2 * (i + 1) + 1)))]) rfl ?_
      exact K (acc &&& (nI (2 * i + 1))) (by show _ = m_first_a_s siz shu one two (m_least siz shu one two 0 1) i acc; unfold m_first_a_s; rw [if_pos c_3])
  show J p l e (rmk 3 69) s m args below meth c D A 4 0 0 Q (mW h q dZ dB siz shu one two) 39 [(0, .ref h), (1, .int (m_least siz shu one two 0 1)), (2, .int (m_first_a_l siz shu one two (m_least siz shu one two 0 1) 2047))] []
  refine j_iload_n C 2 rfl rfl dX1_first_39 rfl ?_
  have T := T _ [(0, .ref h), (1, .int (m_least siz shu one two 0 1)), (2, .int (m_first_a_l siz shu one two (m_least siz shu one two 0 1) 2047))] dX1_first_40
  rw [show m_first siz shu one two = m_first_a_l siz shu one two (m_least siz shu one two 0 1) 2047 from rfl] at T
  exact T
def m_firstCut (siz : Nat → Int32) (shu : Nat → Int32) (one : Nat → Int32) (two : Nat → Int32) : Int32 := m_first siz shu one two
theorem ds_X1_firstCut : dsc yX1_firstCut 0 := by unfold dsc; decide +kernel
set_option maxHeartbeats 4000000 in
theorem met_X1_firstCut (l : Launch) (D : va_G) (h : Nat) (q : Nat → Nat) (dZ dB : ClassId) (siz shu one two : Nat → Int32)  : Ctd l yX1_firstCut cX1_firstCut 1 (some .int) (rmk 4 92) [.ref h] D (tyZ dZ dB) (mW h q dZ dB siz shu one two) (some (.int (m_firstCut siz shu one two))) (mW h q dZ dB siz shu one two) := by
  refine Ctd.ofJi (by decide) (Nat.le_of_ble_eq_true rfl) ?_
  intro p e s m args below meth c A Q C T
  show J p l e (rmk 4 92) s m args below meth c D A 1 0 0 Q (mW h q dZ dB siz shu one two) 0 [(0, .ref h)] []
  refine j_aload_n C 0 rfl rfl dX1_firstCut_0 rfl ?_
  refine j_callV C (met_X1_first l D h q dZ dB siz shu one two ) q235 q237 qs13 q16 q238 ds_X1_first ⟨rfl, rfl⟩ ⟨Nat.le_of_ble_eq_true rfl, Nat.le_of_ble_eq_true rfl⟩ rfl (rest := []) rfl rfl rfl rfl (Nat.le_of_ble_eq_true rfl) ⟨Nat.zero_le _, Nat.zero_le _⟩ dX1_firstCut_1 rfl (st' := [.int (m_first siz shu one two)]) rfl ?_
  have T := T _ [(0, .ref h)] dX1_firstCut_4
  rw [show m_firstCut siz shu one two = m_first siz shu one two from rfl] at T
  exact T
def m_lastCut_a_s (siz : Nat → Int32) (shu : Nat → Int32) (one : Nat → Int32) (two : Nat → Int32) (w : Int32) (i : Nat) (acc : Int32) : Int32 := (if (m_weigh siz shu one two (nI (2 * i + 1))) = w then acc ||| (nI (2 * i + 1)) else acc)
def m_lastCut_a_l (siz : Nat → Int32) (shu : Nat → Int32) (one : Nat → Int32) (two : Nat → Int32) (w : Int32) (acc : Int32) : Int32 := lpF (fun i z => m_lastCut_a_s siz shu one two w i z) 1024 0 acc
def m_lastCut (siz : Nat → Int32) (shu : Nat → Int32) (one : Nat → Int32) (two : Nat → Int32) : Int32 := m_lastCut_a_l siz shu one two (m_least siz shu one two 0 1) 1
theorem ds_X1_lastCut : dsc yX1_lastCut 0 := by unfold dsc; decide +kernel
set_option maxHeartbeats 4000000 in
theorem met_X1_lastCut (l : Launch) (D : va_G) (h : Nat) (q : Nat → Nat) (dZ dB : ClassId) (siz shu one two : Nat → Int32)  : Ctd l yX1_lastCut cX1_lastCut 4 (some .int) (rmk 3 69) [.ref h] D (tyZ dZ dB) (mW h q dZ dB siz shu one two) (some (.int (m_lastCut siz shu one two))) (mW h q dZ dB siz shu one two) := by
  refine Ctd.ofJi (by decide) (Nat.le_of_ble_eq_true rfl) ?_
  intro p e s m args below meth c A Q C T
  show J p l e (rmk 3 69) s m args below meth c D A 4 0 0 Q (mW h q dZ dB siz shu one two) 0 [(0, .ref h)] []
  refine j_aload_n C 0 rfl rfl dX1_lastCut_0 rfl ?_
  refine j_iconst C 0 dX1_lastCut_1 (by decide) rfl ?_
  refine j_iconst C 1 dX1_lastCut_2 (by decide) rfl ?_
  refine j_callV C (met_X1_least l D h q dZ dB siz shu one two 0 1) q215 q217 qs10 q16 q218 ds_X1_least ⟨rfl, rfl⟩ ⟨Nat.le_of_ble_eq_true rfl, Nat.le_of_ble_eq_true rfl⟩ rfl (rest := []) rfl rfl rfl rfl (Nat.le_of_ble_eq_true rfl) ⟨Nat.zero_le _, Nat.zero_le _⟩ dX1_lastCut_3 rfl (st' := [.int (m_least siz shu one two 0 1)]) rfl ?_
  refine j_istore_n C [(1, .int (m_least siz shu one two 0 1)), (0, .ref h)] rfl (by decide) rfl dX1_lastCut_6 rfl ?_
  refine j_iconst C 1 dX1_lastCut_7 (by decide) rfl ?_
  refine j_istore_n C [(2, .int 1), (1, .int (m_least siz shu one two 0 1)), (0, .ref h)] rfl (by decide) rfl dX1_lastCut_8 rfl ?_
  refine j_iconst C 1 dX1_lastCut_9 (by decide) rfl ?_
  refine j_istore_n C [(3, .int 1), (2, .int 1), (1, .int (m_least siz shu one two 0 1)), (0, .ref h)] rfl (by decide) rfl dX1_lastCut_10 rfl ?_
  refine j_lv [3, 2, 1, 0] (lv' := [(0, .ref h), (1, .int (m_least siz shu one two 0 1)), (2, .int 1), (3, .int 1)]) rfl ?_
  refine lpF_rule0 (σ := Int32) (fun i z => m_lastCut_a_s siz shu one two (m_least siz shu one two 0 1) i z) 1024 (fun i z => J p l e (rmk 3 69) s m args below meth c D A 4 0 0 Q (mW h q dZ dB siz shu one two) 11 [(0, .ref h), (1, .int (m_least siz shu one two 0 1)), (2, .int z), (3, .int (nI (2 * i + 1)))] []) (fun z => J p l e (rmk 3 69) s m args below meth c D A 4 0 0 Q (mW h q dZ dB siz shu one two) 37 [(0, .ref h), (1, .int (m_least siz shu one two 0 1)), (2, .int z)] []) ?_ ?_ 1 ?_
  · rintro acc E
    show J p l e (rmk 3 69) s m args below meth c D A 4 0 0 Q (mW h q dZ dB siz shu one two) 11 [(0, .ref h), (1, .int (m_least siz shu one two 0 1)), (2, .int acc), (3, .int (nI (2 * 1024 + 1)))] []
    refine j_iload_n C 3 rfl rfl dX1_lastCut_11 rfl ?_
    refine j_sipush C 2048 dX1_lastCut_12 (by decide) rfl ?_
    refine j_icmp_ge C 37 dX1_lastCut_15 (by decide) rfl (fun _ => ?_) (fun c_1 => absurd (nI_le (a := 2048) (b := 2 * 1024 + 1) (by decide) (by decide)) c_1)
    exact j_lv [0, 1, 2] rfl E
  · rintro i acc hi K
    show J p l e (rmk 3 69) s m args below meth c D A 4 0 0 Q (mW h q dZ dB siz shu one two) 11 [(0, .ref h), (1, .int (m_least siz shu one two 0 1)), (2, .int acc), (3, .int (nI (2 * i + 1)))] []
    refine j_iload_n C 3 rfl rfl dX1_lastCut_11 rfl ?_
    refine j_sipush C 2048 dX1_lastCut_12 (by decide) rfl ?_
    refine j_icmp_ge C 37 dX1_lastCut_15 (by decide) rfl (fun c_2 => absurd c_2 (nI_ge (a := 2 * i + 1) (b := 2048) (by omega) (by decide))) (fun _ => ?_)
    refine j_aload_n C 0 rfl rfl dX1_lastCut_18 rfl ?_
    refine j_iload_n C 3 rfl rfl dX1_lastCut_19 rfl ?_
    refine j_callV C (met_X1_weigh l D h q dZ dB siz shu one two (nI (2 * i + 1))) q219 q221 qs11 q16 q222 ds_X1_weigh ⟨rfl, rfl⟩ ⟨Nat.le_of_ble_eq_true rfl, Nat.le_of_ble_eq_true rfl⟩ rfl (rest := []) rfl rfl rfl rfl (Nat.le_of_ble_eq_true rfl) ⟨Nat.zero_le _, Nat.zero_le _⟩ dX1_lastCut_20 rfl (st' := [.int (m_weigh siz shu one two (nI (2 * i + 1)))]) rfl ?_
    refine j_iload_n C 1 rfl rfl dX1_lastCut_23 rfl ?_
    refine j_icmp_ne C 31 dX1_lastCut_24 (by decide) rfl (fun c_3 => ?_) (fun c_3 => ?_)
    · refine j_iinc C [(3, .int (nI (2 * (i + 1) + 1))), (0, .ref h), (1, .int (m_least siz shu one two 0 1)), (2, .int acc)] 3 rfl (m_inc2 _) (by decide) rfl dX1_lastCut_31 rfl ?_
      refine j_goto C 11 dX1_lastCut_34 (by decide) ?_
      refine j_lv [1, 2, 3, 0] (lv' := [(0, .ref h), (1, .int (m_least siz shu one two 0 1)), (2, .int acc), (3, .int (nI (2 * (i + 1) + 1)))]) rfl ?_
      exact K acc (by show _ = m_lastCut_a_s siz shu one two (m_least siz shu one two 0 1) i acc; unfold m_lastCut_a_s; rw [if_neg c_3])
    · refine j_iload_n C 2 rfl rfl dX1_lastCut_27 rfl ?_
      refine j_iload_n C 3 rfl rfl dX1_lastCut_28 rfl ?_
      refine j_ior C dX1_lastCut_29 rfl ?_
      refine j_istore_n C [(2, .int (acc ||| (nI (2 * i + 1)))), (0, .ref h), (1, .int (m_least siz shu one two 0 1)), (3, .int (nI (2 * i + 1)))] rfl (by decide) rfl dX1_lastCut_30 rfl ?_
      refine j_iinc C [(3, .int (nI (2 * (i + 1) + 1))), (2, .int (acc ||| (nI (2 * i + 1)))), (0, .ref h), (1, .int (m_least siz shu one two 0 1))] 3 rfl (m_inc2 _) (by decide) rfl dX1_lastCut_31 rfl ?_
      refine j_goto C 11 dX1_lastCut_34 (by decide) ?_
      refine j_lv [2, 3, 1, 0] (lv' := [(0, .ref h), (1, .int (m_least siz shu one two 0 1)), (2, .int (acc ||| (nI (2 * i + 1)))), (3, .int (nI (2 * (i + 1) + 1)))]) rfl ?_
      exact K (acc ||| (nI (2 * i + 1))) (by show _ = m_lastCut_a_s siz shu one two (m_least siz shu one two 0 1) i acc; unfold m_lastCut_a_s; rw [if_pos c_3])
  show J p l e (rmk 3 69) s m args below meth c D A 4 0 0 Q (mW h q dZ dB siz shu one two) 37 [(0, .ref h), (1, .int (m_least siz shu one two 0 1)), (2, .int (m_lastCut_a_l siz shu one two (m_least siz shu one two 0 1) 1))] []
  refine j_iload_n C 2 rfl rfl dX1_lastCut_37 rfl ?_
  have T := T _ [(0, .ref h), (1, .int (m_least siz shu one two 0 1)), (2, .int (m_lastCut_a_l siz shu one two (m_least siz shu one two 0 1) 1))] dX1_lastCut_38
  rw [show m_lastCut siz shu one two = m_lastCut_a_l siz shu one two (m_least siz shu one two 0 1) 1 from rfl] at T
  exact T
def m_leastWith (siz : Nat → Int32) (shu : Nat → Int32) (one : Nat → Int32) (two : Nat → Int32) (k : Int32) : Int32 := (if (m_bad k) = 0 then (if k = 11 then (-2) else m_least siz shu one two k 1) else (-1))
theorem ds_X1_leastWith : dsc yX1_leastWith 1 := by unfold dsc; decide +kernel
set_option maxHeartbeats 4000000 in
theorem met_X1_leastWith (l : Launch) (D : va_G) (h : Nat) (q : Nat → Nat) (dZ dB : ClassId) (siz shu one two : Nat → Int32) (k : Int32) : Ctd l yX1_leastWith cX1_leastWith 2 (some .int) (rmk 3 69) [.ref h, .int k] D (tyZ dZ dB) (mW h q dZ dB siz shu one two) (some (.int (m_leastWith siz shu one two k))) (mW h q dZ dB siz shu one two) := by
  refine Ctd.ofJi (by decide) (Nat.le_of_ble_eq_true rfl) ?_
  intro p e s m args below meth c A Q C T
  show J p l e (rmk 3 69) s m args below meth c D A 2 0 0 Q (mW h q dZ dB siz shu one two) 0 [(0, .ref h), (1, .int k)] []
  refine j_aload_n C 0 rfl rfl dX1_leastWith_0 rfl ?_
  refine j_iload_n C 1 rfl rfl dX1_leastWith_1 rfl ?_
  refine j_callV C (met_X1_bad l D h q dZ dB siz shu one two k) q207 q209 qs9 q16 q210 ds_X1_bad ⟨rfl, rfl⟩ ⟨Nat.le_of_ble_eq_true rfl, Nat.le_of_ble_eq_true rfl⟩ rfl (rest := []) rfl rfl rfl rfl (Nat.le_of_ble_eq_true rfl) ⟨Nat.zero_le _, Nat.zero_le _⟩ dX1_leastWith_2 rfl (st' := [.int (m_bad k)]) rfl ?_
  refine j_if_eq C 10 dX1_leastWith_5 (by decide) rfl (fun c_1 => ?_) (fun c_1 => ?_)
  · refine j_iload_n C 1 rfl rfl dX1_leastWith_10 rfl ?_
    refine j_bipush C 11 dX1_leastWith_11 (by decide) rfl ?_
    refine j_icmp_ne C 21 dX1_leastWith_13 (by decide) rfl (fun c_2 => ?_) (fun c_2 => ?_)
    · refine j_aload_n C 0 rfl rfl dX1_leastWith_21 rfl ?_
      refine j_iload_n C 1 rfl rfl dX1_leastWith_22 rfl ?_
      refine j_iconst C 1 dX1_leastWith_23 (by decide) rfl ?_
      refine j_callV C (met_X1_least l D h q dZ dB siz shu one two k 1) q215 q217 qs10 q16 q218 ds_X1_least ⟨rfl, rfl⟩ ⟨Nat.le_of_ble_eq_true rfl, Nat.le_of_ble_eq_true rfl⟩ rfl (rest := []) rfl rfl rfl rfl (Nat.le_of_ble_eq_true rfl) ⟨Nat.zero_le _, Nat.zero_le _⟩ dX1_leastWith_24 rfl (st' := [.int (m_least siz shu one two k 1)]) rfl ?_
      have T := T _ [(0, .ref h), (1, .int k)] dX1_leastWith_27
      rw [show m_leastWith siz shu one two k = m_least siz shu one two k 1 from by unfold m_leastWith; rw [if_pos c_1]; rw [if_neg c_2]] at T
      exact T
    · refine j_bipush C (-2) dX1_leastWith_16 (by decide) rfl ?_
      refine j_goto C 27 dX1_leastWith_18 (by decide) ?_
      have T := T _ [(0, .ref h), (1, .int k)] dX1_leastWith_27
      rw [show m_leastWith siz shu one two k = (-2) from by unfold m_leastWith; rw [if_pos c_1]; rw [if_pos c_2]] at T
      exact T
  · refine j_iconst C (-1) dX1_leastWith_8 (by decide) rfl ?_
    have T := T _ [(0, .ref h), (1, .int k)] dX1_leastWith_9
    rw [show m_leastWith siz shu one two k = (-1) from by unfold m_leastWith; rw [if_neg c_1]] at T
    exact T
def m_leastWithout (siz : Nat → Int32) (shu : Nat → Int32) (one : Nat → Int32) (two : Nat → Int32) (k : Int32) : Int32 := (if (m_bad k) = 0 then (if k = 0 then (-2) else m_least siz shu one two k 0) else (-1))
theorem ds_X1_leastWithout : dsc yX1_leastWithout 1 := by unfold dsc; decide +kernel
set_option maxHeartbeats 4000000 in
theorem met_X1_leastWithout (l : Launch) (D : va_G) (h : Nat) (q : Nat → Nat) (dZ dB : ClassId) (siz shu one two : Nat → Int32) (k : Int32) : Ctd l yX1_leastWithout cX1_leastWithout 2 (some .int) (rmk 3 69) [.ref h, .int k] D (tyZ dZ dB) (mW h q dZ dB siz shu one two) (some (.int (m_leastWithout siz shu one two k))) (mW h q dZ dB siz shu one two) := by
  refine Ctd.ofJi (by decide) (Nat.le_of_ble_eq_true rfl) ?_
  intro p e s m args below meth c A Q C T
  show J p l e (rmk 3 69) s m args below meth c D A 2 0 0 Q (mW h q dZ dB siz shu one two) 0 [(0, .ref h), (1, .int k)] []
  refine j_aload_n C 0 rfl rfl dX1_leastWithout_0 rfl ?_
  refine j_iload_n C 1 rfl rfl dX1_leastWithout_1 rfl ?_
  refine j_callV C (met_X1_bad l D h q dZ dB siz shu one two k) q207 q209 qs9 q16 q210 ds_X1_bad ⟨rfl, rfl⟩ ⟨Nat.le_of_ble_eq_true rfl, Nat.le_of_ble_eq_true rfl⟩ rfl (rest := []) rfl rfl rfl rfl (Nat.le_of_ble_eq_true rfl) ⟨Nat.zero_le _, Nat.zero_le _⟩ dX1_leastWithout_2 rfl (st' := [.int (m_bad k)]) rfl ?_
  refine j_if_eq C 10 dX1_leastWithout_5 (by decide) rfl (fun c_1 => ?_) (fun c_1 => ?_)
  · refine j_iload_n C 1 rfl rfl dX1_leastWithout_10 rfl ?_
    refine j_if_ne C 19 dX1_leastWithout_11 (by decide) rfl (fun c_2 => ?_) (fun c_2 => ?_)
    · refine j_aload_n C 0 rfl rfl dX1_leastWithout_19 rfl ?_
      refine j_iload_n C 1 rfl rfl dX1_leastWithout_20 rfl ?_
      refine j_iconst C 0 dX1_leastWithout_21 (by decide) rfl ?_
      refine j_callV C (met_X1_least l D h q dZ dB siz shu one two k 0) q215 q217 qs10 q16 q218 ds_X1_least ⟨rfl, rfl⟩ ⟨Nat.le_of_ble_eq_true rfl, Nat.le_of_ble_eq_true rfl⟩ rfl (rest := []) rfl rfl rfl rfl (Nat.le_of_ble_eq_true rfl) ⟨Nat.zero_le _, Nat.zero_le _⟩ dX1_leastWithout_22 rfl (st' := [.int (m_least siz shu one two k 0)]) rfl ?_
      have T := T _ [(0, .ref h), (1, .int k)] dX1_leastWithout_25
      rw [show m_leastWithout siz shu one two k = m_least siz shu one two k 0 from by unfold m_leastWithout; rw [if_pos c_1]; rw [if_neg c_2]] at T
      exact T
    · refine j_bipush C (-2) dX1_leastWithout_14 (by decide) rfl ?_
      refine j_goto C 25 dX1_leastWithout_16 (by decide) ?_
      have T := T _ [(0, .ref h), (1, .int k)] dX1_leastWithout_25
      rw [show m_leastWithout siz shu one two k = (-2) from by unfold m_leastWithout; rw [if_pos c_1]; rw [if_pos c_2]] at T
      exact T
  · refine j_iconst C (-1) dX1_leastWithout_8 (by decide) rfl ?_
    have T := T _ [(0, .ref h), (1, .int k)] dX1_leastWithout_9
    rw [show m_leastWithout siz shu one two k = (-1) from by unfold m_leastWithout; rw [if_neg c_1]] at T
    exact T
def m_loss (siz : Nat → Int32) (shu : Nat → Int32) (one : Nat → Int32) (two : Nat → Int32) (street : Int32) : Int32 × (Nat → Int32) := (if (m_badStreet street) = 0 then ((m_least siz shu one two 0 1) - (m_least siz (upd shu street.toNatClampNeg 1) one two 0 1), upd (upd shu street.toNatClampNeg 1) street.toNatClampNeg (shu street.toNatClampNeg)) else ((-1), shu))
theorem ds_X1_loss : dsc yX1_loss 1 := by unfold dsc; decide +kernel
set_option maxHeartbeats 4000000 in
theorem met_X1_loss (l : Launch) (D : va_G) (h : Nat) (q : Nat → Nat) (dZ dB : ClassId) (siz shu one two : Nat → Int32) (street : Int32) (hshu : ∀ k, k < 17 → vp_nar .boolean (shu k) = shu k) : Ctd l yX1_loss cX1_loss 5 (some .int) (rmk 3 69) [.ref h, .int street] D (tyZ dZ dB) (mW h q dZ dB siz shu one two) (some (.int ((m_loss siz shu one two street).1))) (mW h q dZ dB siz ((m_loss siz shu one two street).2) one two) := by
  refine Ctd.ofJi (by decide) (Nat.le_of_ble_eq_true rfl) ?_
  intro p e s m args below meth c A Q C T
  show J p l e (rmk 3 69) s m args below meth c D A 5 0 0 Q (mW h q dZ dB siz shu one two) 0 [(0, .ref h), (1, .int street)] []
  refine j_aload_n C 0 rfl rfl dX1_loss_0 rfl ?_
  refine j_iload_n C 1 rfl rfl dX1_loss_1 rfl ?_
  refine j_callV C (met_X1_badStreet l D h q dZ dB siz shu one two street) q187 q189 qs8 q16 q190 ds_X1_badStreet ⟨rfl, rfl⟩ ⟨Nat.le_of_ble_eq_true rfl, Nat.le_of_ble_eq_true rfl⟩ rfl (rest := []) rfl rfl rfl rfl (Nat.le_of_ble_eq_true rfl) ⟨Nat.zero_le _, Nat.zero_le _⟩ dX1_loss_2 rfl (st' := [.int (m_badStreet street)]) rfl ?_
  refine j_if_eq C 10 dX1_loss_5 (by decide) rfl (fun c_1 => ?_) (fun c_1 => ?_)
  · have hstreet1 := badStreet_in c_1
    refine j_lve (lv' := [(0, .ref h), (1, .int (nI street.toNatClampNeg))]) (by rw [← hstreet1.1]) ?_
    refine j_aload_n C 0 rfl rfl dX1_loss_10 rfl ?_
    refine j_iconst C 0 dX1_loss_11 (by decide) rfl ?_
    refine j_iconst C 1 dX1_loss_12 (by decide) rfl ?_
    refine j_callV C (met_X1_least l D h q dZ dB siz shu one two 0 1) q215 q217 qs10 q16 q218 ds_X1_least ⟨rfl, rfl⟩ ⟨Nat.le_of_ble_eq_true rfl, Nat.le_of_ble_eq_true rfl⟩ rfl (rest := []) rfl rfl rfl rfl (Nat.le_of_ble_eq_true rfl) ⟨Nat.zero_le _, Nat.zero_le _⟩ dX1_loss_13 rfl (st' := [.int (m_least siz shu one two 0 1)]) rfl ?_
    refine j_istore_n C [(2, .int (m_least siz shu one two 0 1)), (0, .ref h), (1, .int (nI street.toNatClampNeg))] rfl (by decide) rfl dX1_loss_16 rfl ?_
    refine j_aload_n C 1 rfl rfl dX1_loss_17 rfl ?_
    refine j_get1 C 1 rfl (by decide) q171 rfl rfl dX1_loss_18 rfl ?_
    refine j_iload_n C 2 rfl rfl dX1_loss_21 rfl ?_
    refine j_zald (k := street.toNatClampNeg) C 2 rfl rfl hstreet1.2 (by decide) dX1_loss_22 rfl ?_
    refine j_istore_n C [(3, .int (shu street.toNatClampNeg)), (2, .int (m_least siz shu one two 0 1)), (0, .ref h), (1, .int (nI street.toNatClampNeg))] rfl (by decide) rfl dX1_loss_23 rfl ?_
    refine j_aload_n C 2 rfl rfl dX1_loss_24 rfl ?_
    refine j_get1 C 1 rfl (by decide) q171 rfl rfl dX1_loss_25 rfl ?_
    refine j_iload_n C 3 rfl rfl dX1_loss_28 rfl ?_
    refine j_iconst C 1 dX1_loss_29 (by decide) rfl ?_
    refine j_zast (k := street.toNatClampNeg) C 2 (mW h q dZ dB siz (upd shu street.toNatClampNeg 1) one two) rfl rfl hstreet1.2 (by decide) (by decide) rfl dX1_loss_30 rfl ?_
    refine j_aload_n C 2 rfl rfl dX1_loss_31 rfl ?_
    refine j_iconst C 0 dX1_loss_32 (by decide) rfl ?_
    refine j_iconst C 1 dX1_loss_33 (by decide) rfl ?_
    refine j_callV C (met_X1_least l D h q dZ dB siz (upd shu street.toNatClampNeg 1) one two 0 1) q215 q217 qs10 q16 q218 ds_X1_least ⟨rfl, rfl⟩ ⟨Nat.le_of_ble_eq_true rfl, Nat.le_of_ble_eq_true rfl⟩ rfl (rest := []) rfl rfl rfl rfl (Nat.le_of_ble_eq_true rfl) ⟨Nat.zero_le _, Nat.zero_le _⟩ dX1_loss_34 rfl (st' := [.int (m_least siz (upd shu street.toNatClampNeg 1) one two 0 1)]) rfl ?_
    refine j_istore C [(4, .int (m_least siz (upd shu street.toNatClampNeg 1) one two 0 1)), (3, .int (shu street.toNatClampNeg)), (2, .int (m_least siz shu one two 0 1)), (0, .ref h), (1, .int (nI street.toNatClampNeg))] (by decide) rfl dX1_loss_37 rfl ?_
    refine j_aload_n C 3 rfl rfl dX1_loss_39 rfl ?_
    refine j_get1 C 1 rfl (by decide) q171 rfl rfl dX1_loss_40 rfl ?_
    refine j_iload_n C 4 rfl rfl dX1_loss_43 rfl ?_
    refine j_iload_n C 1 rfl rfl dX1_loss_44 rfl ?_
    refine j_zast (k := street.toNatClampNeg) C 2 (mW h q dZ dB siz (upd (upd shu street.toNatClampNeg 1) street.toNatClampNeg (shu street.toNatClampNeg)) one two) rfl rfl hstreet1.2 (by decide) (hshu _ hstreet1.2) rfl dX1_loss_45 rfl ?_
    refine j_iload_n C 2 rfl rfl dX1_loss_46 rfl ?_
    refine j_iload C 0 rfl dX1_loss_47 rfl ?_
    refine j_isub C dX1_loss_49 rfl ?_
    have T := T _ [(4, .int (m_least siz (upd shu street.toNatClampNeg 1) one two 0 1)), (3, .int (shu street.toNatClampNeg)), (2, .int (m_least siz shu one two 0 1)), (0, .ref h), (1, .int (nI street.toNatClampNeg))] dX1_loss_50
    rw [show m_loss siz shu one two street = ((m_least siz shu one two 0 1) - (m_least siz (upd shu street.toNatClampNeg 1) one two 0 1), upd (upd shu street.toNatClampNeg 1) street.toNatClampNeg (shu street.toNatClampNeg)) from by unfold m_loss; rw [if_pos c_1]] at T
    exact T
  · refine j_iconst C (-1) dX1_loss_8 (by decide) rfl ?_
    have T := T _ [(0, .ref h), (1, .int street)] dX1_loss_9
    rw [show m_loss siz shu one two street = ((-1), shu) from by unfold m_loss; rw [if_neg c_1]] at T
    exact T
def m_gain (siz : Nat → Int32) (shu : Nat → Int32) (one : Nat → Int32) (two : Nat → Int32) (street : Int32) (amt : Int32) : Int32 × (Nat → Int32) := (if (m_badStreet street) = 0 then (if amt < 0 then ((-2), siz) else (if amt ≤ 100 then ((m_least (upd siz street.toNatClampNeg ((siz street.toNatClampNeg) + amt)) shu one two 0 1) - (m_least siz shu one two 0 1), upd (upd siz street.toNatClampNeg ((siz street.toNatClampNeg) + amt)) street.toNatClampNeg (((upd siz street.toNatClampNeg ((siz street.toNatClampNeg) + amt)) street.toNatClampNeg) - amt)) else ((-2), siz))) else ((-1), siz))
theorem ds_X1_gain : dsc yX1_gain 2 := by unfold dsc; decide +kernel
set_option maxHeartbeats 4000000 in
theorem met_X1_gain (l : Launch) (D : va_G) (h : Nat) (q : Nat → Nat) (dZ dB : ClassId) (siz shu one two : Nat → Int32) (street : Int32) (amt : Int32) : Ctd l yX1_gain cX1_gain 5 (some .int) (rmk 3 69) [.ref h, .int street, .int amt] D (tyZ dZ dB) (mW h q dZ dB siz shu one two) (some (.int ((m_gain siz shu one two street amt).1))) (mW h q dZ dB ((m_gain siz shu one two street amt).2) shu one two) := by
  refine Ctd.ofJi (by decide) (Nat.le_of_ble_eq_true rfl) ?_
  intro p e s m args below meth c A Q C T
  show J p l e (rmk 3 69) s m args below meth c D A 5 0 0 Q (mW h q dZ dB siz shu one two) 0 [(0, .ref h), (1, .int street), (2, .int amt)] []
  refine j_aload_n C 0 rfl rfl dX1_gain_0 rfl ?_
  refine j_iload_n C 1 rfl rfl dX1_gain_1 rfl ?_
  refine j_callV C (met_X1_badStreet l D h q dZ dB siz shu one two street) q187 q189 qs8 q16 q190 ds_X1_badStreet ⟨rfl, rfl⟩ ⟨Nat.le_of_ble_eq_true rfl, Nat.le_of_ble_eq_true rfl⟩ rfl (rest := []) rfl rfl rfl rfl (Nat.le_of_ble_eq_true rfl) ⟨Nat.zero_le _, Nat.zero_le _⟩ dX1_gain_2 rfl (st' := [.int (m_badStreet street)]) rfl ?_
  refine j_if_eq C 10 dX1_gain_5 (by decide) rfl (fun c_1 => ?_) (fun c_1 => ?_)
  · have hstreet1 := badStreet_in c_1
    refine j_lve (lv' := [(0, .ref h), (1, .int (nI street.toNatClampNeg)), (2, .int amt)]) (by rw [← hstreet1.1]) ?_
    refine j_iload_n C 2 rfl rfl dX1_gain_10 rfl ?_
    refine j_if_lt C 20 dX1_gain_11 (by decide) rfl (fun c_2 => ?_) (fun c_2 => ?_)
    · refine j_bipush C (-2) dX1_gain_20 (by decide) rfl ?_
      have T := T _ [(0, .ref h), (1, .int (nI street.toNatClampNeg)), (2, .int amt)] dX1_gain_22
      rw [show m_gain siz shu one two street amt = ((-2), siz) from by unfold m_gain; rw [if_pos c_1]; rw [if_pos c_2]] at T
      exact T
    · refine j_iload_n C 2 rfl rfl dX1_gain_14 rfl ?_
      refine j_bipush C 100 dX1_gain_15 (by decide) rfl ?_
      refine j_icmp_le C 23 dX1_gain_17 (by decide) rfl (fun c_3 => ?_) (fun c_3 => ?_)
      · refine j_aload_n C 0 rfl rfl dX1_gain_23 rfl ?_
        refine j_iconst C 0 dX1_gain_24 (by decide) rfl ?_
        refine j_iconst C 1 dX1_gain_25 (by decide) rfl ?_
        refine j_callV C (met_X1_least l D h q dZ dB siz shu one two 0 1) q215 q217 qs10 q16 q218 ds_X1_least ⟨rfl, rfl⟩ ⟨Nat.le_of_ble_eq_true rfl, Nat.le_of_ble_eq_true rfl⟩ rfl (rest := []) rfl rfl rfl rfl (Nat.le_of_ble_eq_true rfl) ⟨Nat.zero_le _, Nat.zero_le _⟩ dX1_gain_26 rfl (st' := [.int (m_least siz shu one two 0 1)]) rfl ?_
        refine j_istore_n C [(3, .int (m_least siz shu one two 0 1)), (0, .ref h), (1, .int (nI street.toNatClampNeg)), (2, .int amt)] rfl (by decide) rfl dX1_gain_29 rfl ?_
        refine j_aload_n C 1 rfl rfl dX1_gain_30 rfl ?_
        refine j_get1 C 0 rfl (by decide) q170 rfl rfl dX1_gain_31 rfl ?_
        refine j_iload_n C 2 rfl rfl dX1_gain_34 rfl ?_
        refine j_dup2 C rfl rfl dX1_gain_35 rfl ?_
        refine j_iald (k := street.toNatClampNeg) C 1 rfl rfl hstreet1.2 (by decide) dX1_gain_36 rfl ?_
        refine j_iload_n C 3 rfl rfl dX1_gain_37 rfl ?_
        refine j_iadd C dX1_gain_38 rfl ?_
        refine j_iast (k := street.toNatClampNeg) C 1 (mW h q dZ dB (upd siz street.toNatClampNeg ((siz street.toNatClampNeg) + amt)) shu one two) rfl rfl hstreet1.2 (by decide) rfl dX1_gain_39 rfl ?_
        refine j_aload_n C 1 rfl rfl dX1_gain_40 rfl ?_
        refine j_iconst C 0 dX1_gain_41 (by decide) rfl ?_
        refine j_iconst C 1 dX1_gain_42 (by decide) rfl ?_
        refine j_callV C (met_X1_least l D h q dZ dB (upd siz street.toNatClampNeg ((siz street.toNatClampNeg) + amt)) shu one two 0 1) q215 q217 qs10 q16 q218 ds_X1_least ⟨rfl, rfl⟩ ⟨Nat.le_of_ble_eq_true rfl, Nat.le_of_ble_eq_true rfl⟩ rfl (rest := []) rfl rfl rfl rfl (Nat.le_of_ble_eq_true rfl) ⟨Nat.zero_le _, Nat.zero_le _⟩ dX1_gain_43 rfl (st' := [.int (m_least (upd siz street.toNatClampNeg ((siz street.toNatClampNeg) + amt)) shu one two 0 1)]) rfl ?_
        refine j_istore C [(4, .int (m_least (upd siz street.toNatClampNeg ((siz street.toNatClampNeg) + amt)) shu one two 0 1)), (3, .int (m_least siz shu one two 0 1)), (0, .ref h), (1, .int (nI street.toNatClampNeg)), (2, .int amt)] (by decide) rfl dX1_gain_46 rfl ?_
        refine j_aload_n C 2 rfl rfl dX1_gain_48 rfl ?_
        refine j_get1 C 0 rfl (by decide) q170 rfl rfl dX1_gain_49 rfl ?_
        refine j_iload_n C 3 rfl rfl dX1_gain_52 rfl ?_
        refine j_dup2 C rfl rfl dX1_gain_53 rfl ?_
        refine j_iald (k := street.toNatClampNeg) C 1 rfl rfl hstreet1.2 (by decide) dX1_gain_54 rfl ?_
        refine j_iload_n C 4 rfl rfl dX1_gain_55 rfl ?_
        refine j_isub C dX1_gain_56 rfl ?_
        refine j_iast (k := street.toNatClampNeg) C 1 (mW h q dZ dB (upd (upd siz street.toNatClampNeg ((siz street.toNatClampNeg) + amt)) street.toNatClampNeg (((upd siz street.toNatClampNeg ((siz street.toNatClampNeg) + amt)) street.toNatClampNeg) - amt)) shu one two) rfl rfl hstreet1.2 (by decide) rfl dX1_gain_57 rfl ?_
        refine j_iload C 0 rfl dX1_gain_58 rfl ?_
        refine j_iload_n C 1 rfl rfl dX1_gain_60 rfl ?_
        refine j_isub C dX1_gain_61 rfl ?_
        have T := T _ [(4, .int (m_least (upd siz street.toNatClampNeg ((siz street.toNatClampNeg) + amt)) shu one two 0 1)), (3, .int (m_least siz shu one two 0 1)), (0, .ref h), (1, .int (nI street.toNatClampNeg)), (2, .int amt)] dX1_gain_62
        rw [show m_gain siz shu one two street amt = ((m_least (upd siz street.toNatClampNeg ((siz street.toNatClampNeg) + amt)) shu one two 0 1) - (m_least siz shu one two 0 1), upd (upd siz street.toNatClampNeg ((siz street.toNatClampNeg) + amt)) street.toNatClampNeg (((upd siz street.toNatClampNeg ((siz street.toNatClampNeg) + amt)) street.toNatClampNeg) - amt)) from by unfold m_gain; rw [if_pos c_1]; rw [if_neg c_2]; rw [if_pos c_3]] at T
        exact T
      · refine j_bipush C (-2) dX1_gain_20 (by decide) rfl ?_
        have T := T _ [(0, .ref h), (1, .int (nI street.toNatClampNeg)), (2, .int amt)] dX1_gain_22
        rw [show m_gain siz shu one two street amt = ((-2), siz) from by unfold m_gain; rw [if_pos c_1]; rw [if_neg c_2]; rw [if_neg c_3]] at T
        exact T
  · refine j_iconst C (-1) dX1_gain_8 (by decide) rfl ?_
    have T := T _ [(0, .ref h), (1, .int street), (2, .int amt)] dX1_gain_9
    rw [show m_gain siz shu one two street amt = ((-1), siz) from by unfold m_gain; rw [if_neg c_1]] at T
    exact T
def m_way_b_s (siz : Nat → Int32) (shu : Nat → Int32) (one : Nat → Int32) (two : Nat → Int32) (j : Nat) (acc : Int32) : Int32 := (if (m_open siz shu j) ≤ 0 then acc else (if (acc &&& ((1 <<< ((one j) &&& 31)) ||| (1 <<< ((two j) &&& 31)))) = 0 then acc else acc ||| ((1 <<< ((one j) &&& 31)) ||| (1 <<< ((two j) &&& 31)))))
def m_way_b_l (siz : Nat → Int32) (shu : Nat → Int32) (one : Nat → Int32) (two : Nat → Int32) (acc : Int32) : Int32 := lpF (fun j z => m_way_b_s siz shu one two j z) 17 0 acc
def m_way_a_s (siz : Nat → Int32) (shu : Nat → Int32) (one : Nat → Int32) (two : Nat → Int32) (i : Nat) (acc : Int32) : Int32 := m_way_b_l siz shu one two acc
def m_way_a_l (siz : Nat → Int32) (shu : Nat → Int32) (one : Nat → Int32) (two : Nat → Int32) (acc : Int32) : Int32 := lpF (fun i z => m_way_a_s siz shu one two i z) 12 0 acc
def m_way (siz : Nat → Int32) (shu : Nat → Int32) (one : Nat → Int32) (two : Nat → Int32) (a : Int32) (b : Int32) : Int32 := (if (m_bad a) = 0 then (if (m_bad b) = 0 then ((m_way_a_l siz shu one two (1 <<< (a &&& 31))) >>> (b &&& 31)) &&& 1 else (-1)) else (-1))
theorem ds_X1_way : dsc yX1_way 2 := by unfold dsc; decide +kernel
set_option maxHeartbeats 4000000 in
theorem met_X1_way (l : Launch) (D : va_G) (h : Nat) (q : Nat → Nat) (dZ dB : ClassId) (siz shu one two : Nat → Int32) (a : Int32) (b : Int32) : Ctd l yX1_way cX1_way 7 (some .int) (rmk 1 21) [.ref h, .int a, .int b] D (tyZ dZ dB) (mW h q dZ dB siz shu one two) (some (.int (m_way siz shu one two a b))) (mW h q dZ dB siz shu one two) := by
  refine Ctd.ofJi (by decide) (Nat.le_of_ble_eq_true rfl) ?_
  intro p e s m args below meth c A Q C T
  show J p l e (rmk 1 21) s m args below meth c D A 7 0 0 Q (mW h q dZ dB siz shu one two) 0 [(0, .ref h), (1, .int a), (2, .int b)] []
  refine j_aload_n C 0 rfl rfl dX1_way_0 rfl ?_
  refine j_iload_n C 1 rfl rfl dX1_way_1 rfl ?_
  refine j_callV C (met_X1_bad l D h q dZ dB siz shu one two a) q207 q209 qs9 q16 q210 ds_X1_bad ⟨rfl, rfl⟩ ⟨Nat.le_of_ble_eq_true rfl, Nat.le_of_ble_eq_true rfl⟩ rfl (rest := []) rfl rfl rfl rfl (Nat.le_of_ble_eq_true rfl) ⟨Nat.zero_le _, Nat.zero_le _⟩ dX1_way_2 rfl (st' := [.int (m_bad a)]) rfl ?_
  refine j_if_ne C 16 dX1_way_5 (by decide) rfl (fun c_1 => ?_) (fun c_1 => ?_)
  · refine j_iconst C (-1) dX1_way_16 (by decide) rfl ?_
    have T := T _ [(0, .ref h), (1, .int a), (2, .int b)] dX1_way_17
    rw [show m_way siz shu one two a b = (-1) from by unfold m_way; rw [if_neg c_1]] at T
    exact T
  · refine j_aload_n C 0 rfl rfl dX1_way_8 rfl ?_
    refine j_iload_n C 2 rfl rfl dX1_way_9 rfl ?_
    refine j_callV C (met_X1_bad l D h q dZ dB siz shu one two b) q207 q209 qs9 q16 q210 ds_X1_bad ⟨rfl, rfl⟩ ⟨Nat.le_of_ble_eq_true rfl, Nat.le_of_ble_eq_true rfl⟩ rfl (rest := []) rfl rfl rfl rfl (Nat.le_of_ble_eq_true rfl) ⟨Nat.zero_le _, Nat.zero_le _⟩ dX1_way_10 rfl (st' := [.int (m_bad b)]) rfl ?_
    refine j_if_eq C 18 dX1_way_13 (by decide) rfl (fun c_2 => ?_) (fun c_2 => ?_)
    · refine j_iconst C 1 dX1_way_18 (by decide) rfl ?_
      refine j_iload_n C 1 rfl rfl dX1_way_19 rfl ?_
      refine j_ishl C dX1_way_20 rfl ?_
      refine j_istore_n C [(3, .int (1 <<< (a &&& 31))), (0, .ref h), (1, .int a), (2, .int b)] rfl (by decide) rfl dX1_way_21 rfl ?_
      refine j_iconst C 0 dX1_way_22 (by decide) rfl ?_
      refine j_istore C [(4, .int 0), (3, .int (1 <<< (a &&& 31))), (0, .ref h), (1, .int a), (2, .int b)] (by decide) rfl dX1_way_23 rfl ?_
      refine j_lv [2, 4, 1, 0] (lv' := [(0, .ref h), (2, .int b), (3, .int (1 <<< (a &&& 31))), (4, .int 0)]) rfl ?_
      refine lpF_rule0 (σ := Int32) (fun i z => m_way_a_s siz shu one two i z) 12 (fun i z => J p l e (rmk 1 21) s m args below meth c D A 7 0 0 Q (mW h q dZ dB siz shu one two) 25 [(0, .ref h), (2, .int b), (3, .int z), (4, .int (nI i))] []) (fun z => J p l e (rmk 1 21) s m args below meth c D A 7 0 0 Q (mW h q dZ dB siz shu one two) 96 [(0, .ref h), (2, .int b), (3, .int z)] []) ?_ ?_ (1 <<< (a &&& 31)) ?_
      · rintro acc E
        show J p l e (rmk 1 21) s m args below meth c D A 7 0 0 Q (mW h q dZ dB siz shu one two) 25 [(0, .ref h), (2, .int b), (3, .int acc), (4, .int (nI 12))] []
        refine j_iload C 3 rfl dX1_way_25 rfl ?_
        refine j_bipush C 12 dX1_way_27 (by decide) rfl ?_
        refine j_icmp_ge C 96 dX1_way_29 (by decide) rfl (fun _ => ?_) (fun c_3 => absurd (nI_le (a := 12) (b := 12) (by decide) (by decide)) c_3)
        exact j_lv [0, 1, 2] rfl E
      · rintro i acc hi K
        show J p l e (rmk 1 21) s m args below meth c D A 7 0 0 Q (mW h q dZ dB siz shu one two) 25 [(0, .ref h), (2, .int b), (3, .int acc), (4, .int (nI i))] []
        refine j_iload C 3 rfl dX1_way_25 rfl ?_
        refine j_bipush C 12 dX1_way_27 (by decide) rfl ?_
        refine j_icmp_ge C 96 dX1_way_29 (by decide) rfl (fun c_4 => absurd c_4 (nI_ge (a := i) (b := 12) hi (by decide))) (fun _ => ?_)
        refine j_iconst C 0 dX1_way_32 (by decide) rfl ?_
        refine j_istore C [(5, .int 0), (0, .ref h), (2, .int b), (3, .int acc), (4, .int (nI i))] (by decide) rfl dX1_way_33 rfl ?_
        refine j_lv [1, 2, 4, 3, 0] (lv' := [(0, .ref h), (2, .int b), (4, .int (nI i)), (3, .int acc), (5, .int 0)]) rfl ?_
        refine lpF_rule0 (σ := Int32) (fun j z => m_way_b_s siz shu one two j z) 17 (fun j z => J p l e (rmk 1 21) s m args below meth c D A 7 0 0 Q (mW h q dZ dB siz shu one two) 35 [(0, .ref h), (2, .int b), (4, .int (nI i)), (3, .int z), (5, .int (nI j))] []) (fun z => J p l e (rmk 1 21) s m args below meth c D A 7 0 0 Q (mW h q dZ dB siz shu one two) 90 [(0, .ref h), (2, .int b), (4, .int (nI i)), (3, .int z)] []) ?_ ?_ acc ?_
        · rintro acc E
          show J p l e (rmk 1 21) s m args below meth c D A 7 0 0 Q (mW h q dZ dB siz shu one two) 35 [(0, .ref h), (2, .int b), (4, .int (nI i)), (3, .int acc), (5, .int (nI 17))] []
          refine j_iload C 4 rfl dX1_way_35 rfl ?_
          refine j_bipush C 17 dX1_way_37 (by decide) rfl ?_
          refine j_icmp_ge C 90 dX1_way_39 (by decide) rfl (fun _ => ?_) (fun c_5 => absurd (nI_le (a := 17) (b := 17) (by decide) (by decide)) c_5)
          exact j_lv [0, 1, 2, 3] rfl E
        · rintro j acc hj K
          show J p l e (rmk 1 21) s m args below meth c D A 7 0 0 Q (mW h q dZ dB siz shu one two) 35 [(0, .ref h), (2, .int b), (4, .int (nI i)), (3, .int acc), (5, .int (nI j))] []
          refine j_iload C 4 rfl dX1_way_35 rfl ?_
          refine j_bipush C 17 dX1_way_37 (by decide) rfl ?_
          refine j_icmp_ge C 90 dX1_way_39 (by decide) rfl (fun c_6 => absurd c_6 (nI_ge (a := j) (b := 17) hj (by decide))) (fun _ => ?_)
          refine j_iconst C 1 dX1_way_42 (by decide) rfl ?_
          refine j_aload_n C 0 rfl rfl dX1_way_43 rfl ?_
          refine j_get1 C 2 rfl (by decide) q172 rfl rfl dX1_way_44 rfl ?_
          refine j_iload C 4 rfl dX1_way_47 rfl ?_
          refine j_iald (k := j) C 3 rfl rfl hj (by decide) dX1_way_49 rfl ?_
          refine j_ishl C dX1_way_50 rfl ?_
          refine j_iconst C 1 dX1_way_51 (by decide) rfl ?_
          refine j_aload_n C 0 rfl rfl dX1_way_52 rfl ?_
          refine j_get1 C 3 rfl (by decide) q173 rfl rfl dX1_way_53 rfl ?_
          refine j_iload C 4 rfl dX1_way_56 rfl ?_
          refine j_iald (k := j) C 4 rfl rfl hj (by decide) dX1_way_58 rfl ?_
          refine j_ishl C dX1_way_59 rfl ?_
          refine j_ior C dX1_way_60 rfl ?_
          refine j_istore C [(6, .int ((1 <<< ((one j) &&& 31)) ||| (1 <<< ((two j) &&& 31)))), (0, .ref h), (2, .int b), (4, .int (nI i)), (3, .int acc), (5, .int (nI j))] (by decide) rfl dX1_way_61 rfl ?_
          refine j_aload_n C 1 rfl rfl dX1_way_63 rfl ?_
          refine j_iload C 5 rfl dX1_way_64 rfl ?_
          refine j_callV C (met_X1_open l D h q dZ dB siz shu one two j hj) q223 q225 qs12 q16 q226 ds_X1_open ⟨rfl, rfl⟩ ⟨Nat.le_of_ble_eq_true rfl, Nat.le_of_ble_eq_true rfl⟩ rfl (rest := []) rfl rfl rfl rfl (Nat.le_of_ble_eq_true rfl) ⟨Nat.zero_le _, Nat.zero_le _⟩ dX1_way_66 rfl (st' := [.int (m_open siz shu j)]) rfl ?_
          refine j_if_le C 84 dX1_way_69 (by decide) rfl (fun c_7 => ?_) (fun c_7 => ?_)
          · refine j_iinc C [(5, .int (nI (j + 1))), (6, .int ((1 <<< ((one j) &&& 31)) ||| (1 <<< ((two j) &&& 31)))), (0, .ref h), (2, .int b), (4, .int (nI i)), (3, .int acc)] 5 rfl (nI_1 _) (by decide) rfl dX1_way_84 rfl ?_
            refine j_goto C 35 dX1_way_87 (by decide) ?_
            refine j_lv [2, 3, 4, 5, 0] (lv' := [(0, .ref h), (2, .int b), (4, .int (nI i)), (3, .int acc), (5, .int (nI (j + 1)))]) rfl ?_
            exact K acc (by show _ = m_way_b_s siz shu one two j acc; unfold m_way_b_s; rw [if_pos c_7])
          · refine j_iload_n C 4 rfl rfl dX1_way_72 rfl ?_
            refine j_iload C 0 rfl dX1_way_73 rfl ?_
            refine j_iand C dX1_way_75 rfl ?_
            refine j_if_eq C 84 dX1_way_76 (by decide) rfl (fun c_8 => ?_) (fun c_8 => ?_)
            · refine j_iinc C [(5, .int (nI (j + 1))), (6, .int ((1 <<< ((one j) &&& 31)) ||| (1 <<< ((two j) &&& 31)))), (0, .ref h), (2, .int b), (4, .int (nI i)), (3, .int acc)] 5 rfl (nI_1 _) (by decide) rfl dX1_way_84 rfl ?_
              refine j_goto C 35 dX1_way_87 (by decide) ?_
              refine j_lv [2, 3, 4, 5, 0] (lv' := [(0, .ref h), (2, .int b), (4, .int (nI i)), (3, .int acc), (5, .int (nI (j + 1)))]) rfl ?_
              exact K acc (by show _ = m_way_b_s siz shu one two j acc; unfold m_way_b_s; rw [if_neg c_7]; rw [if_pos c_8])
            · refine j_iload_n C 4 rfl rfl dX1_way_79 rfl ?_
              refine j_iload C 0 rfl dX1_way_80 rfl ?_
              refine j_ior C dX1_way_82 rfl ?_
              refine j_istore_n C [(3, .int (acc ||| ((1 <<< ((one j) &&& 31)) ||| (1 <<< ((two j) &&& 31))))), (6, .int ((1 <<< ((one j) &&& 31)) ||| (1 <<< ((two j) &&& 31)))), (0, .ref h), (2, .int b), (4, .int (nI i)), (5, .int (nI j))] rfl (by decide) rfl dX1_way_83 rfl ?_
              refine j_iinc C [(5, .int (nI (j + 1))), (3, .int (acc ||| ((1 <<< ((one j) &&& 31)) ||| (1 <<< ((two j) &&& 31))))), (6, .int ((1 <<< ((one j) &&& 31)) ||| (1 <<< ((two j) &&& 31)))), (0, .ref h), (2, .int b), (4, .int (nI i))] 5 rfl (nI_1 _) (by decide) rfl dX1_way_84 rfl ?_
              refine j_goto C 35 dX1_way_87 (by decide) ?_
              refine j_lv [3, 4, 5, 1, 0] (lv' := [(0, .ref h), (2, .int b), (4, .int (nI i)), (3, .int (acc ||| ((1 <<< ((one j) &&& 31)) ||| (1 <<< ((two j) &&& 31))))), (5, .int (nI (j + 1)))]) rfl ?_
              exact K (acc ||| ((1 <<< ((one j) &&& 31)) ||| (1 <<< ((two j) &&& 31)))) (by show _ = m_way_b_s siz shu one two j acc; unfold m_way_b_s; rw [if_neg c_7]; rw [if_neg c_8])
        show J p l e (rmk 1 21) s m args below meth c D A 7 0 0 Q (mW h q dZ dB siz shu one two) 90 [(0, .ref h), (2, .int b), (4, .int (nI i)), (3, .int (m_way_b_l siz shu one two acc))] []
        refine j_iinc C [(4, .int (nI (i + 1))), (0, .ref h), (2, .int b), (3, .int (m_way_b_l siz shu one two acc))] 2 rfl (nI_1 _) (by decide) rfl dX1_way_90 rfl ?_
        refine j_goto C 25 dX1_way_93 (by decide) ?_
        refine j_lv [1, 2, 3, 0] (lv' := [(0, .ref h), (2, .int b), (3, .int (m_way_b_l siz shu one two acc)), (4, .int (nI (i + 1)))]) rfl ?_
        exact K (m_way_b_l siz shu one two acc) (rfl)
      show J p l e (rmk 1 21) s m args below meth c D A 7 0 0 Q (mW h q dZ dB siz shu one two) 96 [(0, .ref h), (2, .int b), (3, .int (m_way_a_l siz shu one two (1 <<< (a &&& 31))))] []
      refine j_iload_n C 2 rfl rfl dX1_way_96 rfl ?_
      refine j_iload_n C 1 rfl rfl dX1_way_97 rfl ?_
      refine j_ishr C dX1_way_98 rfl ?_
      refine j_iconst C 1 dX1_way_99 (by decide) rfl ?_
      refine j_iand C dX1_way_100 rfl ?_
      have T := T _ [(0, .ref h), (2, .int b), (3, .int (m_way_a_l siz shu one two (1 <<< (a &&& 31))))] dX1_way_101
      rw [show m_way siz shu one two a b = ((m_way_a_l siz shu one two (1 <<< (a &&& 31))) >>> (b &&& 31)) &&& 1 from by unfold m_way; rw [if_pos c_1]; rw [if_pos c_2]] at T
      exact T
    · refine j_iconst C (-1) dX1_way_16 (by decide) rfl ?_
      have T := T _ [(0, .ref h), (1, .int a), (2, .int b)] dX1_way_17
      rw [show m_way siz shu one two a b = (-1) from by unfold m_way; rw [if_pos c_1]; rw [if_neg c_2]] at T
      exact T
def m_cutStreets_a_s (siz : Nat → Int32) (shu : Nat → Int32) (one : Nat → Int32) (two : Nat → Int32) (cut : Int32) (i : Nat) (n : Int32) : Int32 := (if ((cut >>> ((one i) &&& 31)) &&& 1) = ((cut >>> ((two i) &&& 31)) &&& 1) then n else (if (m_open siz shu i) ≤ 0 then n else n + 1))
def m_cutStreets_a_l (siz : Nat → Int32) (shu : Nat → Int32) (one : Nat → Int32) (two : Nat → Int32) (cut : Int32) (n : Int32) : Int32 := lpF (fun i z => m_cutStreets_a_s siz shu one two cut i z) 17 0 n
def m_cutStreets (siz : Nat → Int32) (shu : Nat → Int32) (one : Nat → Int32) (two : Nat → Int32) : Int32 := m_cutStreets_a_l siz shu one two (m_first siz shu one two) 0
theorem ds_X1_cutStreets : dsc yX1_cutStreets 0 := by unfold dsc; decide +kernel
set_option maxHeartbeats 4000000 in
theorem met_X1_cutStreets (l : Launch) (D : va_G) (h : Nat) (q : Nat → Nat) (dZ dB : ClassId) (siz shu one two : Nat → Int32)  : Ctd l yX1_cutStreets cX1_cutStreets 4 (some .int) (rmk 4 92) [.ref h] D (tyZ dZ dB) (mW h q dZ dB siz shu one two) (some (.int (m_cutStreets siz shu one two))) (mW h q dZ dB siz shu one two) := by
  refine Ctd.ofJi (by decide) (Nat.le_of_ble_eq_true rfl) ?_
  intro p e s m args below meth c A Q C T
  show J p l e (rmk 4 92) s m args below meth c D A 4 0 0 Q (mW h q dZ dB siz shu one two) 0 [(0, .ref h)] []
  refine j_aload_n C 0 rfl rfl dX1_cutStreets_0 rfl ?_
  refine j_callV C (met_X1_first l D h q dZ dB siz shu one two ) q235 q237 qs13 q16 q238 ds_X1_first ⟨rfl, rfl⟩ ⟨Nat.le_of_ble_eq_true rfl, Nat.le_of_ble_eq_true rfl⟩ rfl (rest := []) rfl rfl rfl rfl (Nat.le_of_ble_eq_true rfl) ⟨Nat.zero_le _, Nat.zero_le _⟩ dX1_cutStreets_1 rfl (st' := [.int (m_first siz shu one two)]) rfl ?_
  refine j_istore_n C [(1, .int (m_first siz shu one two)), (0, .ref h)] rfl (by decide) rfl dX1_cutStreets_4 rfl ?_
  refine j_iconst C 0 dX1_cutStreets_5 (by decide) rfl ?_
  refine j_istore_n C [(2, .int 0), (1, .int (m_first siz shu one two)), (0, .ref h)] rfl (by decide) rfl dX1_cutStreets_6 rfl ?_
  refine j_iconst C 0 dX1_cutStreets_7 (by decide) rfl ?_
  refine j_istore_n C [(3, .int 0), (2, .int 0), (1, .int (m_first siz shu one two)), (0, .ref h)] rfl (by decide) rfl dX1_cutStreets_8 rfl ?_
  refine j_lv [3, 2, 1, 0] (lv' := [(0, .ref h), (1, .int (m_first siz shu one two)), (2, .int 0), (3, .int 0)]) rfl ?_
  refine lpF_rule0 (σ := Int32) (fun i z => m_cutStreets_a_s siz shu one two (m_first siz shu one two) i z) 17 (fun i z => J p l e (rmk 4 92) s m args below meth c D A 4 0 0 Q (mW h q dZ dB siz shu one two) 9 [(0, .ref h), (1, .int (m_first siz shu one two)), (2, .int z), (3, .int (nI i))] []) (fun z => J p l e (rmk 4 92) s m args below meth c D A 4 0 0 Q (mW h q dZ dB siz shu one two) 55 [(0, .ref h), (1, .int (m_first siz shu one two)), (2, .int z)] []) ?_ ?_ 0 ?_
  · rintro n E
    show J p l e (rmk 4 92) s m args below meth c D A 4 0 0 Q (mW h q dZ dB siz shu one two) 9 [(0, .ref h), (1, .int (m_first siz shu one two)), (2, .int n), (3, .int (nI 17))] []
    refine j_iload_n C 3 rfl rfl dX1_cutStreets_9 rfl ?_
    refine j_bipush C 17 dX1_cutStreets_10 (by decide) rfl ?_
    refine j_icmp_ge C 55 dX1_cutStreets_12 (by decide) rfl (fun _ => ?_) (fun c_1 => absurd (nI_le (a := 17) (b := 17) (by decide) (by decide)) c_1)
    exact j_lv [0, 1, 2] rfl E
  · rintro i n hi K
    show J p l e (rmk 4 92) s m args below meth c D A 4 0 0 Q (mW h q dZ dB siz shu one two) 9 [(0, .ref h), (1, .int (m_first siz shu one two)), (2, .int n), (3, .int (nI i))] []
    refine j_iload_n C 3 rfl rfl dX1_cutStreets_9 rfl ?_
    refine j_bipush C 17 dX1_cutStreets_10 (by decide) rfl ?_
    refine j_icmp_ge C 55 dX1_cutStreets_12 (by decide) rfl (fun c_2 => absurd c_2 (nI_ge (a := i) (b := 17) hi (by decide))) (fun _ => ?_)
    refine j_iload_n C 1 rfl rfl dX1_cutStreets_15 rfl ?_
    refine j_aload_n C 0 rfl rfl dX1_cutStreets_16 rfl ?_
    refine j_get1 C 2 rfl (by decide) q172 rfl rfl dX1_cutStreets_17 rfl ?_
    refine j_iload_n C 3 rfl rfl dX1_cutStreets_20 rfl ?_
    refine j_iald (k := i) C 3 rfl rfl hi (by decide) dX1_cutStreets_21 rfl ?_
    refine j_ishr C dX1_cutStreets_22 rfl ?_
    refine j_iconst C 1 dX1_cutStreets_23 (by decide) rfl ?_
    refine j_iand C dX1_cutStreets_24 rfl ?_
    refine j_iload_n C 1 rfl rfl dX1_cutStreets_25 rfl ?_
    refine j_aload_n C 0 rfl rfl dX1_cutStreets_26 rfl ?_
    refine j_get1 C 3 rfl (by decide) q173 rfl rfl dX1_cutStreets_27 rfl ?_
    refine j_iload_n C 3 rfl rfl dX1_cutStreets_30 rfl ?_
    refine j_iald (k := i) C 4 rfl rfl hi (by decide) dX1_cutStreets_31 rfl ?_
    refine j_ishr C dX1_cutStreets_32 rfl ?_
    refine j_iconst C 1 dX1_cutStreets_33 (by decide) rfl ?_
    refine j_iand C dX1_cutStreets_34 rfl ?_
    refine j_icmp_eq C 49 dX1_cutStreets_35 (by decide) rfl (fun c_3 => ?_) (fun c_3 => ?_)
    · refine j_iinc C [(3, .int (nI (i + 1))), (0, .ref h), (1, .int (m_first siz shu one two)), (2, .int n)] 3 rfl (nI_1 _) (by decide) rfl dX1_cutStreets_49 rfl ?_
      refine j_goto C 9 dX1_cutStreets_52 (by decide) ?_
      refine j_lv [1, 2, 3, 0] (lv' := [(0, .ref h), (1, .int (m_first siz shu one two)), (2, .int n), (3, .int (nI (i + 1)))]) rfl ?_
      exact K n (by show _ = m_cutStreets_a_s siz shu one two (m_first siz shu one two) i n; unfold m_cutStreets_a_s; rw [if_pos c_3])
    · refine j_aload_n C 0 rfl rfl dX1_cutStreets_38 rfl ?_
      refine j_iload_n C 3 rfl rfl dX1_cutStreets_39 rfl ?_
      refine j_callV C (met_X1_open l D h q dZ dB siz shu one two i hi) q223 q225 qs12 q16 q226 ds_X1_open ⟨rfl, rfl⟩ ⟨Nat.le_of_ble_eq_true rfl, Nat.le_of_ble_eq_true rfl⟩ rfl (rest := []) rfl rfl rfl rfl (Nat.le_of_ble_eq_true rfl) ⟨Nat.zero_le _, Nat.zero_le _⟩ dX1_cutStreets_40 rfl (st' := [.int (m_open siz shu i)]) rfl ?_
      refine j_if_le C 49 dX1_cutStreets_43 (by decide) rfl (fun c_4 => ?_) (fun c_4 => ?_)
      · refine j_iinc C [(3, .int (nI (i + 1))), (0, .ref h), (1, .int (m_first siz shu one two)), (2, .int n)] 3 rfl (nI_1 _) (by decide) rfl dX1_cutStreets_49 rfl ?_
        refine j_goto C 9 dX1_cutStreets_52 (by decide) ?_
        refine j_lv [1, 2, 3, 0] (lv' := [(0, .ref h), (1, .int (m_first siz shu one two)), (2, .int n), (3, .int (nI (i + 1)))]) rfl ?_
        exact K n (by show _ = m_cutStreets_a_s siz shu one two (m_first siz shu one two) i n; unfold m_cutStreets_a_s; rw [if_neg c_3]; rw [if_pos c_4])
      · refine j_iinc C [(2, .int (n + 1)), (0, .ref h), (1, .int (m_first siz shu one two)), (3, .int (nI i))] 2 rfl rfl (by decide) rfl dX1_cutStreets_46 rfl ?_
        refine j_iinc C [(3, .int (nI (i + 1))), (2, .int (n + 1)), (0, .ref h), (1, .int (m_first siz shu one two))] 3 rfl (nI_1 _) (by decide) rfl dX1_cutStreets_49 rfl ?_
        refine j_goto C 9 dX1_cutStreets_52 (by decide) ?_
        refine j_lv [2, 3, 1, 0] (lv' := [(0, .ref h), (1, .int (m_first siz shu one two)), (2, .int (n + 1)), (3, .int (nI (i + 1)))]) rfl ?_
        exact K (n + 1) (by show _ = m_cutStreets_a_s siz shu one two (m_first siz shu one two) i n; unfold m_cutStreets_a_s; rw [if_neg c_3]; rw [if_neg c_4])
  show J p l e (rmk 4 92) s m args below meth c D A 4 0 0 Q (mW h q dZ dB siz shu one two) 55 [(0, .ref h), (1, .int (m_first siz shu one two)), (2, .int (m_cutStreets_a_l siz shu one two (m_first siz shu one two) 0))] []
  refine j_iload_n C 2 rfl rfl dX1_cutStreets_55 rfl ?_
  have T := T _ [(0, .ref h), (1, .int (m_first siz shu one two)), (2, .int (m_cutStreets_a_l siz shu one two (m_first siz shu one two) 0))] dX1_cutStreets_56
  rw [show m_cutStreets siz shu one two = m_cutStreets_a_l siz shu one two (m_first siz shu one two) 0 from rfl] at T
  exact T
end
section
set_option maxRecDepth 100000
/-! whole numbers behind Java's ints; sums over the streets; cuts and flows -/
theorem ti_add {a b : Int32} (h1 : -2147483648 ≤ a.toInt + b.toInt) (h2 : a.toInt + b.toInt < 2147483648) : (a + b).toInt = a.toInt + b.toInt := by
  rw [Int32.toInt_add]
  exact Int.bmod_eq_of_le (by omega) (by omega)
theorem ti_sub {a b : Int32} (h1 : -2147483648 ≤ a.toInt - b.toInt) (h2 : a.toInt - b.toInt < 2147483648) : (a - b).toInt = a.toInt - b.toInt := by
  rw [Int32.toInt_sub]
  exact Int.bmod_eq_of_le (by omega) (by omega)
theorem ti_neg {a : Int32} (h1 : -2147483648 ≤ -a.toInt) (h2 : -a.toInt < 2147483648) : (-a).toInt = -a.toInt := by
  rw [Int32.toInt_neg]
  exact Int.bmod_eq_of_le (by omega) (by omega)
theorem ti_le {a b : Int32} : a ≤ b ↔ a.toInt ≤ b.toInt := Int32.le_iff_toInt_le
theorem ti_lt {a b : Int32} : a < b ↔ a.toInt < b.toInt := Int32.lt_iff_toInt_lt
theorem ti_inj {a b : Int32} (h : a.toInt = b.toInt) : a = b := Int32.toInt_inj.mp h
theorem ti_0 : (0 : Int32).toInt = 0 := by decide
theorem ti_1 : (1 : Int32).toInt = 1 := by decide
theorem ti_m1 : (-1 : Int32).toInt = -1 := by decide
def sm (f : Nat → Int) : Nat → Int
  | 0 => 0
  | n + 1 => sm f n + f n
theorem sm_congr {f g : Nat → Int} : ∀ n, (∀ k, k < n → f k = g k) → sm f n = sm g n
  | 0, _ => rfl
  | n + 1, h => by
    unfold sm
    rw [sm_congr n (fun k hk => h k (by omega)), h n (by omega)]
theorem sm_le {f g : Nat → Int} : ∀ n, (∀ k, k < n → f k ≤ g k) → sm f n ≤ sm g n
  | 0, _ => Int.le_refl _
  | n + 1, h => by
    unfold sm
    have h1 := sm_le n (fun k hk => h k (by omega))
    have h2 := h n (by omega)
    omega
theorem sm_eq {f g : Nat → Int} : ∀ n, (∀ k, k < n → f k ≤ g k) → sm f n = sm g n → ∀ k, k < n → f k = g k
  | 0, _, _, k, hk => absurd hk (Nat.not_lt_zero k)
  | n + 1, h, e, k, hk => by
    unfold sm at e
    have h1 := sm_le n (fun k hk => h k (by omega))
    have h2 := h n (by omega)
    rcases Nat.lt_or_ge k n with h3 | h3
    · exact sm_eq n (fun k hk => h k (by omega)) (by omega) k h3
    · have : k = n := by omega
      subst this
      omega
theorem sm_upd {f g : Nat → Int} {p : Nat} {x : Int} (h2 : g p = f p + x) : ∀ n, p < n → (∀ k, k < n → k ≠ p → g k = f k) → sm g n = sm f n + x
  | 0, h, _ => absurd h (Nat.not_lt_zero p)
  | n + 1, h, h1 => by
    unfold sm
    rcases Nat.lt_or_ge p n with h3 | h3
    · rw [sm_upd h2 n h3 (fun k hk => h1 k (by omega)), h1 n (by omega) (by omega)]; omega
    · have : p = n := by omega
      subst this
      rw [sm_congr (f := g) (g := f) p (fun k hk => h1 k (by omega) (by omega)), h2]; omega
theorem sm_bd {f : Nat → Int} {c : Int} : ∀ n, (∀ k, k < n → 0 ≤ f k ∧ f k ≤ c) → 0 ≤ sm f n ∧ sm f n ≤ c * (n : Int)
  | 0, _ => by
    unfold sm
    constructor
    · exact Int.le_refl _
    · show (0 : Int) ≤ c * 0
      rw [Int.mul_zero]; exact Int.le_refl _
  | n + 1, h => by
    have ih := sm_bd n (fun k hk => h k (by omega))
    have h1 := h n (by omega)
    have e : c * ((n + 1 : Nat) : Int) = c * (n : Int) + c := by
      rw [Int.natCast_add, Int.mul_add]
      show _ + c * 1 = _
      rw [Int.mul_one]
    unfold sm
    rw [e]
    omega
theorem sm_bd17 {f : Nat → Int} {c : Int} (h : ∀ k, k < 17 → 0 ≤ f k ∧ f k ≤ c) : 0 ≤ sm f 17 ∧ sm f 17 ≤ c * 17 := sm_bd 17 h
/-- what a street may carry -/
def rI (cap clo : Nat → Int32) (k : Nat) : Int := (g_room cap clo k).toInt
def Rb (cap clo : Nat → Int32) (c : Int) : Prop := ∀ k, k < 17 → 0 ≤ rI cap clo k ∧ rI cap clo k ≤ c
def Ub (cap clo use : Nat → Int32) : Prop := ∀ k, k < 17 → -rI cap clo k ≤ (use k).toInt ∧ (use k).toInt ≤ rI cap clo k
/-- the weight of a cut -/
def wtk (r : Nat → Int) (S : Nat → Bool) (k : Nat) : Int := if S (fe k) = S (se k) then 0 else r k
def wt (r : Nat → Int) (S : Nat → Bool) : Int := sm (wtk r S) 17
def tm (x y : Bool) (u : Int) : Int := match x, y with
  | true, false => u
  | false, true => -u
  | _, _ => 0
/-- what flows out of a set -/
def fx (use : Nat → Int32) (S : Nat → Bool) : Int := sm (fun k => tm (S (fe k)) (S (se k)) (use k).toInt) 17
theorem wt_congr {r : Nat → Int} {S T : Nat → Bool} (h : ∀ c, c < 12 → S c = T c) : wt r S = wt r T := by
  unfold wt
  refine sm_congr 17 (fun k hk => ?_)
  unfold wtk
  rw [h _ (fe_lt hk), h _ (se_lt hk)]
theorem wt_bd {cap clo : Nat → Int32} {c : Int} (h : Rb cap clo c) (S : Nat → Bool) : 0 ≤ wt (rI cap clo) S ∧ wt (rI cap clo) S ≤ c * 17 := by
  refine sm_bd17 (fun k hk => ?_)
  unfold wtk
  have := h k hk
  split <;> omega
theorem tm_le {x y : Bool} {u r : Int} (h1 : -r ≤ u) (h2 : u ≤ r) : tm x y u ≤ if x = y then 0 else r := by
  cases x <;> cases y <;> simp [tm] <;> omega
theorem fx_wt {cap clo use : Nat → Int32} (hu : Ub cap clo use) (S : Nat → Bool) : fx use S ≤ wt (rI cap clo) S := sm_le 17 (fun k hk => tm_le (hu k hk).1 (hu k hk).2)
/-- no street out of S has room left -/
def Cl (cap clo use : Nat → Int32) (S : Nat → Bool) : Prop := ∀ k, k < 17 → (S (fe k) = true → S (se k) = false → (use k).toInt = rI cap clo k) ∧ (S (fe k) = false → S (se k) = true → (use k).toInt = -rI cap clo k)
theorem Cl_wt {cap clo use : Nat → Int32} {S : Nat → Bool} (h : Cl cap clo use S) : fx use S = wt (rI cap clo) S := by
  refine sm_congr 17 (fun k hk => ?_)
  unfold wtk
  obtain ⟨h1, h2⟩ := h k hk
  revert h1 h2
  cases S (fe k) <;> cases S (se k) <;> simp [tm] <;> omega
theorem wt_Cl {cap clo use : Nat → Int32} (hu : Ub cap clo use) {S : Nat → Bool} (h : fx use S = wt (rI cap clo) S) : Cl cap clo use S := by
  intro k hk
  have h1 := sm_eq 17 (fun k hk => tm_le (x := S (fe k)) (y := S (se k)) (hu k hk).1 (hu k hk).2) h k hk
  revert h1
  cases S (fe k) <;> cases S (se k) <;> simp [tm] <;> omega
theorem fe_se : ∀ k, k < 17 → ¬ fe k = se k := by decide
theorem left_fe {cap clo use : Nat → Int32} {c : Int} (hr : Rb cap clo c) (hc : c ≤ 1000) (hu : Ub cap clo use) {k : Nat} (hk : k < 17) : (g_left cap clo use k (nI (fe k))).toInt = rI cap clo k - (use k).toInt := by
  have h1 := hr k hk
  have h2 := hu k hk
  unfold rI at h1 h2 ⊢
  unfold g_left
  rw [if_pos rfl, ti_sub (by omega) (by omega)]
theorem left_se {cap clo use : Nat → Int32} {c : Int} (hr : Rb cap clo c) (hc : c ≤ 1000) (hu : Ub cap clo use) {k : Nat} (hk : k < 17) : (g_left cap clo use k (nI (se k))).toInt = rI cap clo k + (use k).toInt := by
  have h1 := hr k hk
  have h2 := hu k hk
  have h3 := fe_lt hk
  have h4 := se_lt hk
  unfold rI at h1 h2 ⊢
  unfold g_left
  rw [if_neg (fun e => fe_se k hk ((nI_eq (by omega) (by omega)).mp e)), ti_add (by omega) (by omega)]
theorem oe_cases (k : Nat) (hk : k < 17) (c : Nat) (hc : c < 12) (o : Nat) (ho : o < 12) (h : g_otherEnd k (nI c) = nI o) : (fe k = c ∧ se k = o) ∨ (se k = c ∧ fe k = o) := by
  have hf := fe_lt hk
  have hs := se_lt hk
  unfold g_otherEnd at h
  by_cases h1 : nI (fe k) = nI c
  · rw [if_pos h1] at h
    exact Or.inl ⟨(nI_eq (by omega) (by omega)).mp h1, (nI_eq (by omega) (by omega)).mp h⟩
  · rw [if_neg h1] at h
    by_cases h2 : nI (se k) = nI c
    · rw [if_pos h2] at h
      exact Or.inr ⟨(nI_eq (by omega) (by omega)).mp h2, (nI_eq (by omega) (by omega)).mp h⟩
    · rw [if_neg h2] at h
      exact absurd h.symm (nI_m1 o (by omega))
theorem oe_two (k : Nat) (hk : k < 17) (v : Nat) (hv : v < 12) (c : Nat) (hc : c < 12) (hne : ¬ v = c) (h1 : ¬ g_otherEnd k (nI v) = (-1)) (h2 : ¬ g_otherEnd k (nI c) = (-1)) : g_otherEnd k (nI v) = nI c := by
  have e1 := otherEnd_in hk h1
  have e2 := otherEnd_in hk h2
  rcases oe_cases k hk v hv _ e1.2 e1.1 with ⟨a, -⟩ | ⟨a, -⟩
  · rcases oe_cases k hk c hc _ e2.2 e2.1 with ⟨b, -⟩ | ⟨b, -⟩
    · exact absurd (a.symm.trans b) hne
    · rw [← a, ← b]; exact oe_fe
  · rcases oe_cases k hk c hc _ e2.2 e2.1 with ⟨b, -⟩ | ⟨b, -⟩
    · rw [← a, ← b]; exact oe_se hk
    · exact absurd (a.symm.trans b) hne
end
section
set_option maxRecDepth 100000
/-! pushing along a way; a greatest flow -/
theorem lpB_brk {σ : Type} {f : Nat → σ → Bool × σ} {n i : Nat} {s s' : σ} (h : f i s = (false, s')) : lpB f (n + 1) i s = s' := by
  rw [lpB_s, h, if_neg (fun h => Bool.noConfusion h)]
theorem lpB_go {σ : Type} {f : Nat → σ → Bool × σ} {n i : Nat} {s s' : σ} (h : f i s = (true, s')) : lpB f (n + 1) i s = lpB f n (i + 1) s' := by
  rw [lpB_s, h, if_pos rfl]
theorem chn_lvl {Vs Vs' : Nat → Prop} {Lr Lr' : Nat → Int32 → Prop} {src : Int32} {par : Nat → Int32} : ∀ d d' c, chn Vs Lr src par d c → chn Vs' Lr' src par d' c → d = d'
  | 0, 0, _, _, _ => rfl
  | 0, d' + 1, c, h, h' => absurd h'.2.2.1 h.2.2
  | d + 1, 0, c, h, h' => absurd h.2.2.1 h'.2.2
  | d + 1, d' + 1, c, h, h' => by rw [chn_lvl d d' _ h.2.2.2.2.2.2.2 h'.2.2.2.2.2.2.2]
theorem chn_avoid {Vs : Nat → Prop} {Lr Lr' : Nat → Int32 → Prop} {src : Int32} {par : Nat → Int32} {c0 p e : Nat} (h0 : chn Vs Lr src par (e + 1) c0) (hp : (par c0).toNatClampNeg = p) (hL : ∀ st x, st < 17 → st ≠ p → Lr st x → Lr' st x) : ∀ d v, d ≤ e → chn Vs Lr src par d v → chn Vs Lr' src par d v
  | 0, v, _, h => h
  | d + 1, v, hd, h => by
    obtain ⟨h1, h2, h3, h4, h5, h6, h7, h8⟩ := id h
    have hne : (par v).toNatClampNeg ≠ p := by
      intro hv
      by_cases hvc : v = c0
      · subst hvc
        have := chn_lvl _ _ _ h h0
        omega
      · obtain ⟨g1, -, -, -, g5, g6, -, -⟩ := id h0
        rw [hp] at g5 g6
        rw [hv] at h6 h8
        have e1 := oe_two p g5 v h1 c0 g1 hvc h6 g6
        rw [e1, nI_clamp (by omega)] at h8
        have := chn_lvl _ _ _ h8 h0
        omega
    exact ⟨h1, h2, h3, h4, h5, h6, hL _ _ h5 hne h7, chn_avoid h0 hp hL d _ (by omega) h8⟩
theorem pa_loop {cap clo use par : Nat → Int32} {src : Int32} : ∀ n i (amt : Int32) c d, chn (fun _ => True) (fun st x => 0 < g_left cap clo use st x) src par d c → d ≤ n → 0 < amt.toInt → amt.toInt ≤ 100000 → ∀ a, (lpB (fun i z => g_push_a_s cap clo use par src i z.1 z.2) n i (amt, c)).1 = a → 0 < a.toInt ∧ a.toInt ≤ amt.toInt ∧ chn (fun _ => True) (fun st x => a.toInt ≤ (g_left cap clo use st x).toInt) src par d c := by
  intro n
  induction n with
  | zero =>
    intro i amt c d h hd h1 h2 a ha
    have : d = 0 := by omega
    subst this
    rw [lpB_0] at ha
    subst ha
    exact ⟨h1, Int.le_refl _, h.1, trivial, h.2.2⟩
  | succ n ih =>
    intro i amt c d h hd h1 h2 a ha
    cases d with
    | zero =>
      have e : g_push_a_s cap clo use par src i amt c = (false, (amt, c)) := by unfold g_push_a_s; rw [if_neg h.2.2]
      rw [lpB_brk (f := fun i z => g_push_a_s cap clo use par src i z.1 z.2) (s := (amt, c)) e] at ha
      subst ha
      exact ⟨h1, Int.le_refl _, h.1, trivial, h.2.2⟩
    | succ d =>
      obtain ⟨g1, g2, g3, g4, g5, g6, g7, g8⟩ := h
      have ho := otherEnd_in g5 g6
      generalize hp : (par c).toNatClampNeg = p at g4 g5 g6 g7 g8 ho
      generalize hoo : (g_otherEnd p (nI c)).toNatClampNeg = o at g8 ho
      have g7' : 0 < (g_left cap clo use p (nI o)).toInt := by rw [ho.1] at g7; exact ti_lt.mp g7
      have fin : ∀ a : Int32, a.toInt ≤ (g_left cap clo use p (nI o)).toInt → chn (fun _ => True) (fun st x => a.toInt ≤ (g_left cap clo use st x).toInt) src par d o → chn (fun _ => True) (fun st x => a.toInt ≤ (g_left cap clo use st x).toInt) src par (d + 1) c := by
        intro a h5 h6
        unfold chn
        rw [hp, hoo]
        exact ⟨g1, trivial, g3, g4, g5, g6, by rw [ho.1]; exact h5, h6⟩
      by_cases hl : amt ≤ g_left cap clo use p (nI o)
      · have e : g_push_a_s cap clo use par src i amt c = (true, (amt, o)) := by unfold g_push_a_s; rw [if_pos g3, hp, hoo, if_pos hl]
        rw [lpB_go (f := fun i z => g_push_a_s cap clo use par src i z.1 z.2) (s := (amt, c)) e] at ha
        obtain ⟨k1, k2, k3⟩ := ih (i + 1) amt o d g8 (by omega) h1 h2 a ha
        have := ti_le.mp hl
        exact ⟨k1, k2, fin a (by omega) k3⟩
      · have e : g_push_a_s cap clo use par src i amt c = (true, (g_left cap clo use p (nI o), o)) := by unfold g_push_a_s; rw [if_pos g3, hp, hoo, if_neg hl]
        rw [lpB_go (f := fun i z => g_push_a_s cap clo use par src i z.1 z.2) (s := (amt, c)) e] at ha
        rw [ti_le] at hl
        obtain ⟨k1, k2, k3⟩ := ih (i + 1) _ o d g8 (by omega) g7' (by omega) a ha
        exact ⟨k1, by omega, fin a k2 k3⟩
theorem bt_src {src : Int32} {c : Nat} (hc : c < 12) (h : ¬ ((src >>> (nI c &&& 31)) &&& 1) = 0) : bt src c = true := by
  cases hb : bt src c with
  | true => rfl
  | false => exact absurd ((bI_0 (by omega)).mpr hb) h
/-- one street's share changes -/
theorem fx_upd {use : Nat → Int32} {S : Nat → Bool} {p : Nat} {x : Int32} {t : Int} (hp : p < 17) (h : tm (S (fe p)) (S (se p)) x.toInt = tm (S (fe p)) (S (se p)) (use p).toInt + t) : fx (upd use p x) S = fx use S + t := by
  refine sm_upd (p := p) ?_ 17 hp (fun k _ hk => ?_)
  · try dsimp only
    rw [upd_s]; exact h
  · try dsimp only
    rw [upd_n _ _ hk]
theorem pb_loop {cap clo par : Nat → Int32} {src a : Int32} (hr : Rb cap clo 20) (ha : 0 < a.toInt) (ha2 : a.toInt ≤ 100000) : ∀ n i (use : Nat → Int32) c d, chn (fun _ => True) (fun st x => a.toInt ≤ (g_left cap clo use st x).toInt) src par d c → d ≤ n → Ub cap clo use → ∀ us, (lpB (fun i z => g_push_b_s par src a i z.1 z.2) n i (use, c)).1 = us → Ub cap clo us ∧ ∀ S : Nat → Bool, (∀ c, c < 12 → bt src c = true → S c = true) → fx us S = fx use S + if S c = true then 0 else a.toInt := by
  intro n
  induction n with
  | zero =>
    intro i use c d h hd hu us hus
    have : d = 0 := by omega
    subst this
    rw [lpB_0] at hus
    subst hus
    refine ⟨hu, fun S hS => ?_⟩
    rw [if_pos (hS c h.1 (bt_src h.1 h.2.2))]
    exact (Int.add_zero _).symm
  | succ n ih =>
    intro i use c d h hd hu us hus
    cases d with
    | zero =>
      have e : g_push_b_s par src a i use c = (false, (use, c)) := by unfold g_push_b_s; rw [if_neg h.2.2]
      rw [lpB_brk (f := fun i z => g_push_b_s par src a i z.1 z.2) (s := (use, c)) e] at hus
      subst hus
      refine ⟨hu, fun S hS => ?_⟩
      rw [if_pos (hS c h.1 (bt_src h.1 h.2.2))]
      exact (Int.add_zero _).symm
    | succ d =>
      obtain ⟨g1, g2, g3, g4, g5, g6, g7, g8⟩ := id h
      have ho := otherEnd_in g5 g6
      generalize hp : (par c).toNatClampNeg = p at g4 g5 g6 g7 g8 ho
      generalize hoo : (g_otherEnd p (nI c)).toNatClampNeg = o at g8 ho
      rw [ho.1] at g7
      have hcs := oe_cases p g5 c g1 o ho.2 ho.1
      have hrp := hr p g5
      have hup := hu p g5
      -- the way behind c stays
      have stay : ∀ x : Int32, chn (fun _ => True) (fun st y => a.toInt ≤ (g_left cap clo (upd use p x) st y).toInt) src par d o := by
        intro x
        refine chn_avoid h hp (fun st y _ hne hl => ?_) d o (Nat.le_refl d) g8
        have e : g_left cap clo (upd use p x) st y = g_left cap clo use st y := by unfold g_left; rw [upd_n _ _ hne]
        rw [e]; exact hl
      have bound : ∀ x : Int32, -rI cap clo p ≤ x.toInt → x.toInt ≤ rI cap clo p → Ub cap clo (upd use p x) := by
        intro x h1 h2 k hk
        by_cases hkp : k = p
        · subst hkp; rw [upd_s]; exact ⟨h1, h2⟩
        · rw [upd_n _ _ hkp]; exact hu k hk
      by_cases hf : nI (fe p) = nI o
      · have hfo : fe p = o := (nI_eq (by have := fe_lt g5; omega) (by omega)).mp hf
        have hsc : se p = c := by
          rcases hcs with ⟨h1, h2⟩ | ⟨h1, h2⟩
          · exact absurd (hfo.trans h2.symm) (fe_se p g5)
          · exact h1
        have e : g_push_b_s par src a i use c = (true, (upd use p (use p + a), o)) := by unfold g_push_b_s; rw [if_pos g3, hp, hoo, if_pos hf]
        rw [lpB_go (f := fun i z => g_push_b_s par src a i z.1 z.2) (s := (use, c)) e] at hus
        rw [← hf, left_fe hr (by decide) hu g5] at g7
        have hx : (use p + a).toInt = (use p).toInt + a.toInt := ti_add (by omega) (by omega)
        obtain ⟨k1, k2⟩ := ih (i + 1) _ o d (stay _) (by omega) (bound _ (by omega) (by omega)) us hus
        refine ⟨k1, fun S hS => ?_⟩
        rw [k2 S hS]
        have hfx := fx_upd (use := use) (S := S) (x := use p + a) (t := tm (S o) (S c) a.toInt) g5 (by
          rw [hx, hfo, hsc]
          cases S o <;> cases S c <;> simp [tm] <;> omega)
        rw [hfx]
        cases S o <;> cases S c <;> simp [tm] <;> omega
      · have hfc : fe p = c ∧ se p = o := by
          rcases hcs with h1 | ⟨h1, h2⟩
          · exact h1
          · exact absurd (congrArg nI h2) hf
        have e : g_push_b_s par src a i use c = (true, (upd use p (use p + -a), o)) := by unfold g_push_b_s; rw [if_pos g3, hp, hoo, if_neg hf]
        rw [lpB_go (f := fun i z => g_push_b_s par src a i z.1 z.2) (s := (use, c)) e] at hus
        rw [← hfc.2, left_se hr (by decide) hu g5] at g7
        have hna : (-a).toInt = -a.toInt := ti_neg (by omega) (by omega)
        have hx : (use p + -a).toInt = (use p).toInt - a.toInt := by rw [ti_add (by omega) (by omega), hna]; omega
        obtain ⟨k1, k2⟩ := ih (i + 1) _ o d (stay _) (by omega) (bound _ (by omega) (by omega)) us hus
        refine ⟨k1, fun S hS => ?_⟩
        rw [k2 S hS]
        have hfx := fx_upd (use := use) (S := S) (x := use p + -a) (t := tm (S o) (S c) a.toInt) g5 (by
          rw [hx, hfc.1, hfc.2]
          cases S o <;> cases S c <;> simp [tm] <;> omega)
        rw [hfx]
        cases S o <;> cases S c <;> simp [tm] <;> omega
/-- sets that hold the sources and no sink -/
def Vd (src snk : Int32) (S : Nat → Bool) : Prop := (∀ c, c < 12 → bt src c = true → S c = true) ∧ (∀ c, c < 12 → bt snk c = true → S c = false)
theorem push_spec {cap clo use par : Nat → Int32} {src : Int32} {en d : Nat} (hr : Rb cap clo 20) (hu : Ub cap clo use) (h : chn (fun _ => True) (fun st x => 0 < g_left cap clo use st x) src par d en) (hd : d ≤ 12) : 0 < (g_push cap clo use par en src).1.toInt ∧ (g_push cap clo use par en src).1.toInt ≤ 100000 ∧ Ub cap clo (g_push cap clo use par en src).2 ∧ ∀ S : Nat → Bool, (∀ c, c < 12 → bt src c = true → S c = true) → fx (g_push cap clo use par en src).2 S = fx use S + if S en = true then 0 else (g_push cap clo use par en src).1.toInt := by
  have h1 := pa_loop 12 0 100000 en d h hd (by decide) (by decide) (g_push cap clo use par en src).1 rfl
  have h2 : (100000 : Int32).toInt = 100000 := by decide
  have h3 := pb_loop hr h1.1 (by omega) 12 0 use en d h1.2.2 hd hu (g_push cap clo use par en src).2 rfl
  exact ⟨h1.1, by omega, h3.1, h3.2⟩
theorem fill_0 (use : Nat → Int32) : ∀ k, k < 17 → g_fill_a_l use k = 0 := by
  refine lpF_inv (fun i z => g_fill_a_s i z) (fun i z => ∀ k, k < i → z k = 0) 17 (fun i z hi h k hk => ?_) 17 0 use rfl (fun k hk => absurd hk (Nat.not_lt_zero k))
  show upd z i 0 k = 0
  by_cases h1 : k = i
  · subst h1; rw [upd_s]
  · rw [upd_n _ _ h1]; exact h k (by omega)
theorem fx_0 {use : Nat → Int32} (h : ∀ k, k < 17 → use k = 0) (S : Nat → Bool) : fx use S = 0 := by
  have e : fx use S = sm (fun _ => 0) 17 := sm_congr 17 (fun k hk => by
    try dsimp only
    rw [h k hk, ti_0]
    cases S (fe k) <;> cases S (se k) <;> rfl)
  rw [e]; rfl
/-- fill: a flow, its value, and a set that nothing leaves -/
def Fl (cap clo : Nat → Int32) (src snk : Int32) (z : Int32 × (Nat → Int32) × (Nat → Int32) × (Nat → Int32)) : Prop := Ub cap clo z.2.1 ∧ (∀ S, Vd src snk S → fx z.2.1 S = z.1.toInt) ∧ ClosedS cap clo z.2.1 src snk
theorem fill_step {cap clo : Nat → Int32} {src snk : Int32} (hr : Rb cap clo 20) (hds : Vd src snk (bt src)) {i : Nat} {z : Int32 × (Nat → Int32) × (Nat → Int32) × (Nat → Int32)} (hu : Ub cap clo z.2.1) (hf : ∀ S, Vd src snk S → fx z.2.1 S = z.1.toInt) (hi : (i : Int) ≤ z.1.toInt) :
    (∀ z', g_fill_b_s cap clo src snk i z.1 z.2.1 z.2.2.1 z.2.2.2 = (true, z') → Ub cap clo z'.2.1 ∧ (∀ S, Vd src snk S → fx z'.2.1 S = z'.1.toInt) ∧ ((i + 1 : Nat) : Int) ≤ z'.1.toInt) ∧ (∀ z', g_fill_b_s cap clo src snk i z.1 z.2.1 z.2.2.1 z.2.2.2 = (false, z') → Fl cap clo src snk z') := by
  obtain ⟨total, us, pa, qu⟩ := z
  dsimp only at hu hf hi ⊢
  unfold g_fill_b_s
  have hle := fx_wt hu (bt src)
  rw [hf _ hds] at hle
  have hw := (wt_bd hr (bt src)).2
  by_cases hs : (g_search cap clo us pa qu src snk).1 = (-1)
  · rw [if_pos hs]
    refine ⟨fun z' e => (nomatch e), fun z' e => ?_⟩
    cases e
    refine ⟨hu, hf, ?_⟩
    rcases search_spec cap clo us pa qu src snk with ⟨-, h⟩ | ⟨en, h1, h2, -⟩
    · exact h
    · rw [h2] at hs
      exact absurd hs (nI_m1 en (by omega))
  · rw [if_neg hs]
    refine ⟨fun z' e => ?_, fun z' e => (nomatch e)⟩
    cases e
    rcases search_spec cap clo us pa qu src snk with ⟨h, -⟩ | ⟨en, h1, h2, h3, h4, d, h5, h6⟩
    · exact absurd h hs
    · rw [h2, nI_clamp (by omega)]
      obtain ⟨p1, p2, p3, p4⟩ := push_spec hr hu h6 h5
      have hadd := ti_add (a := total) (b := (g_push cap clo us (g_search cap clo us pa qu src snk).2.1 en src).1) (by omega) (by omega)
      refine ⟨p3, fun S hS => ?_, ?_⟩
      · show fx _ S = _
        rw [hadd, p4 S hS.1, hf S hS, hS.2 en h1 h3]
        rfl
      · show _ ≤ (total + _).toInt
        rw [hadd]; omega
theorem fill_spec {cap clo : Nat → Int32} (use par que : Nat → Int32) {src snk : Int32} (hr : Rb cap clo 20) (hds : Vd src snk (bt src)) : Fl cap clo src snk (g_fill cap clo use par que src snk) := by
  refine lpB_inv (fun i z => g_fill_b_s cap clo src snk i z.1 z.2.1 z.2.2.1 z.2.2.2) (fun i z => Ub cap clo z.2.1 ∧ (∀ S, Vd src snk S → fx z.2.1 S = z.1.toInt) ∧ (i : Int) ≤ z.1.toInt) (Fl cap clo src snk) 341 (fun i s s' _ h e => (fill_step hr hds h.1 h.2.1 h.2.2).1 s' e) (fun i s s' _ h e => (fill_step hr hds h.1 h.2.1 h.2.2).2 s' e) (fun s h => ?_) 341 0 (0, g_fill_a_l use, par, que) rfl ?_
  · exfalso
    have hle := fx_wt h.1 (bt src)
    rw [h.2.1 _ hds] at hle
    have hw := (wt_bd hr (bt src)).2
    have := h.2.2
    omega
  · refine ⟨fun k hk => ?_, fun S _ => ?_, ?_⟩
    · show -rI cap clo k ≤ (g_fill_a_l use k).toInt ∧ (g_fill_a_l use k).toInt ≤ rI cap clo k
      rw [fill_0 use k hk, ti_0]
      have := hr k hk
      omega
    · show fx (g_fill_a_l use) S = (0 : Int32).toInt
      rw [fx_0 (fill_0 use), ti_0]
    · show ((0 : Nat) : Int) ≤ (0 : Int32).toInt
      rw [ti_0]; decide
/-- a closed set in the search's words is one in the flow's -/
theorem ClosedS_Cl {cap clo use : Nat → Int32} {src snk : Int32} (hr : Rb cap clo 20) (hu : Ub cap clo use) (hds : Vd src snk (bt src)) (h : ClosedS cap clo use src snk) : ∃ sn : Int32, Vd src snk (bt sn) ∧ Cl cap clo use (bt sn) := by
  obtain ⟨sn, h1, h2, h3⟩ := h
  refine ⟨sn, ⟨h1, fun c hc hk => ?_⟩, fun k hk => ?_⟩
  · cases hb : bt sn c with
    | false => rfl
    | true =>
      have := hds.2 c hc hk
      rw [h2 c hc hb hk] at this
      cases this
  · have hf := fe_lt hk
    have hs := se_lt hk
    have hup := hu k hk
    constructor
    · intro e1 e2
      have hl := left_fe hr (by decide) hu hk
      by_cases h0 : 0 < g_left cap clo use k (nI (fe k))
      · rw [h3 (fe k) k (se k) hf e1 hk hs oe_fe h0] at e2
        cases e2
      · rw [ti_lt, ti_0] at h0
        omega
    · intro e1 e2
      have hl := left_se hr (by decide) hu hk
      by_cases h0 : 0 < g_left cap clo use k (nI (se k))
      · rw [h3 (se k) k (fe k) hs e2 hk hf (oe_se hk) h0] at e1
        cases e1
      · rw [ti_lt, ti_0] at h0
        omega
/-- the least weight of a set with the sources and without the sinks -/
def Mn (r : Nat → Int) (src snk : Int32) (w : Int) : Prop := (∃ S, Vd src snk S ∧ wt r S = w) ∧ ∀ S, Vd src snk S → w ≤ wt r S
theorem fill_least {cap clo : Nat → Int32} (use par que : Nat → Int32) {src snk : Int32} (hr : Rb cap clo 20) (hds : Vd src snk (bt src)) : Mn (rI cap clo) src snk (g_fill cap clo use par que src snk).1.toInt := by
  obtain ⟨hu, hf, hc⟩ := fill_spec use par que hr hds
  obtain ⟨sn, h1, h2⟩ := ClosedS_Cl hr hu hds hc
  refine ⟨⟨bt sn, h1, ?_⟩, fun S hS => ?_⟩
  · rw [← Cl_wt h2, hf _ h1]
  · rw [← hf S hS]; exact fx_wt hu S
end
section
set_option maxRecDepth 100000
/-! the second map: a shortest way is a least cut -/
def xr (a b : Bool) : Bool := match a with
  | true => !b
  | false => b
def xs (f : Nat → Bool) : Nat → Bool
  | 0 => false
  | n + 1 => xr (f n) (xs f n)
theorem xr_lc : ∀ a b c : Bool, xr a (xr b c) = xr b (xr a c) := by decide
theorem xr_as : ∀ a b c : Bool, xr (xr a b) c = xr a (xr b c) := by decide
theorem xs_congr {f g : Nat → Bool} : ∀ n, (∀ k, k < n → f k = g k) → xs f n = xs g n
  | 0, _ => rfl
  | n + 1, h => by
    unfold xs
    rw [xs_congr n (fun k hk => h k (by omega)), h n (by omega)]
theorem xs_upd {f g : Nat → Bool} {p : Nat} {x : Bool} (h2 : g p = xr x (f p)) : ∀ n, p < n → (∀ k, k < n → k ≠ p → g k = f k) → xs g n = xr x (xs f n)
  | 0, h, _ => absurd h (Nat.not_lt_zero p)
  | n + 1, h, h1 => by
    unfold xs
    rcases Nat.lt_or_ge p n with h3 | h3
    · rw [xs_upd h2 n h3 (fun k hk => h1 k (by omega)), h1 n (by omega) (by omega), xr_lc]
    · have : p = n := by omega
      subst this
      rw [xs_congr (f := g) (g := f) p (fun k hk => h1 k (by omega) (by omega)), h2, xr_as]
/-- the streets of P lead from place 6 to place p -/
def Bp (P : Nat → Bool) (p : Nat) : Prop := ∀ x, x < 8 → xs (fun k => xr (decide (fp k = x)) (decide (sp k = x)) && P k) 17 = xr (decide (x = 6)) (decide (x = p))
def pw (r : Nat → Int) (P : Nat → Bool) : Int := sm (fun k => if P k = true then r k else 0) 17
def fl (P : Nat → Bool) (j k : Nat) : Bool := xr (decide (k = j)) (P k)
theorem fp_sp : ∀ k, k < 17 → ¬ fp k = sp k := by decide
theorem Bp_0 : Bp (fun _ => false) 6 := by unfold Bp; decide
theorem xr_1 : ∀ a b c d : Bool, xr (xr a b) (xr b (xr d c)) = xr a (xr d c) := by decide
theorem Bp_fl {P : Nat → Bool} {p q j : Nat} (h : Bp P p) (hj : j < 17) (he : (fp j = p ∧ sp j = q) ∨ (sp j = p ∧ fp j = q)) : Bp (fl P j) q := by
  intro x hx
  have e := xs_upd (f := fun k => xr (decide (fp k = x)) (decide (sp k = x)) && P k) (g := fun k => xr (decide (fp k = x)) (decide (sp k = x)) && fl P j k) (p := j) (x := xr (decide (fp j = x)) (decide (sp j = x))) (by
    try dsimp only
    unfold fl
    rw [decide_eq_true (rfl : j = j)]
    cases xr (decide (fp j = x)) (decide (sp j = x)) <;> cases P j <;> rfl) 17 hj (fun k _ hk => by
    try dsimp only
    unfold fl
    rw [decide_eq_false hk]
    rfl)
  rw [e, h x hx]
  have hc : ∀ {a b : Nat}, decide (a = b) = decide (b = a) := fun {a b} => by
    by_cases h : a = b
    · subst h; rfl
    · rw [decide_eq_false h, decide_eq_false (fun e => h e.symm)]
  rcases he with ⟨h1, h2⟩ | ⟨h1, h2⟩
  · rw [h1, h2, hc (a := p), hc (a := q)]
    cases decide (x = p) <;> cases decide (x = q) <;> cases decide (x = 6) <;> rfl
  · rw [h1, h2, hc (a := p), hc (a := q)]
    cases decide (x = p) <;> cases decide (x = q) <;> cases decide (x = 6) <;> rfl
theorem pw_fl {r : Nat → Int} {P : Nat → Bool} {j : Nat} (hj : j < 17) (hr : 0 ≤ r j) : pw r (fl P j) ≤ pw r P + r j := by
  have e : pw r (fl P j) = pw r P + (if P j = true then -r j else r j) := sm_upd (p := j) (by
    try dsimp only
    unfold fl
    rw [decide_eq_true (rfl : j = j)]
    cases P j <;> simp [xr] <;> omega) 17 hj (fun k _ hk => by
    try dsimp only
    unfold fl
    rw [decide_eq_false hk]
    rfl)
  rw [e]
  split <;> omega
/-- what a place's length means -/
def Ln (cap clo len : Nat → Int32) (p : Nat) : Prop := (len p).toInt = 100000 ∨ ∃ P, Bp P p ∧ pw (rI cap clo) P ≤ (len p).toInt
def RX (cap clo len : Nat → Int32) (near : Nat) (ln : Nat → Int32) : Prop :=
  (∀ p, p < 8 → 0 ≤ (ln p).toInt ∧ (ln p).toInt ≤ (len p).toInt) ∧
  (∀ p, p < 8 → (len p).toInt ≤ (len near).toInt → (ln p).toInt = (len p).toInt) ∧
  (∀ p, p < 8 → (len near).toInt ≤ (len p).toInt → (len near).toInt ≤ (ln p).toInt) ∧
  (∀ p, p < 8 → Ln cap clo ln p)
theorem rx_go {cap clo len ln : Nat → Int32} {near y j : Nat} (hr : Rb cap clo 120) (hlen : ∀ p, p < 8 → 0 ≤ (len p).toInt ∧ (len p).toInt ≤ 100000) (hn : near < 8) (hy : y < 8) (hj : j < 17) (he : (fp j = near ∧ sp j = y) ∨ (sp j = near ∧ fp j = y)) (h : RX cap clo len near ln) : ∀ ln', (if ln y ≤ ln near + g_room cap clo j then ln else upd ln y (ln near + g_room cap clo j)) = ln' → RX cap clo len near ln' ∧ (∀ p, p < 8 → (ln' p).toInt ≤ (ln p).toInt) ∧ (ln' y).toInt ≤ (len near).toInt + rI cap clo j := by
  intro ln' e
  obtain ⟨h1, h2, h3, h4⟩ := id h
  have hnn := h2 near hn (Int.le_refl _)
  have hln := hlen near hn
  have hrj := hr j hj
  have hadd : (ln near + g_room cap clo j).toInt = (len near).toInt + rI cap clo j := by
    have hrj' := hrj
    unfold rI at hrj' ⊢
    rw [ti_add (by omega) (by omega), hnn]
  by_cases hl : ln y ≤ ln near + g_room cap clo j
  · rw [if_pos hl] at e
    subst e
    rw [ti_le, hadd] at hl
    exact ⟨h, fun p _ => Int.le_refl _, hl⟩
  · rw [if_neg hl] at e
    subst e
    rw [ti_le, hadd] at hl
    have hy1 := h1 y hy
    have hyl := hlen y hy
    refine ⟨⟨fun p hp => ?_, fun p hp hpn => ?_, fun p hp hpn => ?_, fun p hp => ?_⟩, fun p hp => ?_, ?_⟩
    · by_cases hpy : p = y
      · subst hpy; rw [upd_s, hadd]; omega
      · rw [upd_n _ _ hpy]; exact h1 p hp
    · by_cases hpy : p = y
      · subst hpy; omega
      · rw [upd_n _ _ hpy]; exact h2 p hp hpn
    · by_cases hpy : p = y
      · subst hpy; rw [upd_s, hadd]; omega
      · rw [upd_n _ _ hpy]; exact h3 p hp hpn
    · by_cases hpy : p = y
      · subst hpy
        unfold Ln
        rw [upd_s, hadd]
        rcases h4 near hn with h5 | ⟨P, h5, h6⟩
        · omega
        · refine Or.inr ⟨fl P j, Bp_fl h5 hj he, ?_⟩
          have := pw_fl (r := rI cap clo) (P := P) hj hrj.1
          omega
      · unfold Ln
        rw [upd_n _ _ hpy]; exact h4 p hp
    · by_cases hpy : p = y
      · subst hpy; rw [upd_s, hadd]; omega
      · rw [upd_n _ _ hpy]; exact Int.le_refl _
    · rw [upd_s, hadd]; exact Int.le_refl _
/-- the streets of a place below j are looked at -/
def Ed (cap clo len ln : Nat → Int32) (near j : Nat) : Prop := ∀ k, k < j → k < 17 → (fp k = near → (ln (sp k)).toInt ≤ (len near).toInt + rI cap clo k) ∧ (sp k = near → (ln (fp k)).toInt ≤ (len near).toInt + rI cap clo k)
theorem rx_step {cap clo len ln : Nat → Int32} {near j : Nat} (hr : Rb cap clo 120) (hlen : ∀ p, p < 8 → 0 ≤ (len p).toInt ∧ (len p).toInt ≤ 100000) (hn : near < 8) (hj : j < 17) (h : RX cap clo len near ln) (hE : Ed cap clo len ln near j) : RX cap clo len near (g_shortest_d_s cap clo near j ln) ∧ Ed cap clo len (g_shortest_d_s cap clo near j ln) near (j + 1) := by
  have hf := fp_lt hj
  have hs := sp_lt hj
  have hfs := fp_sp j hj
  unfold g_shortest_d_s g_relax
  have fin : ∀ ln', (∀ p, p < 8 → (ln' p).toInt ≤ (ln p).toInt) → ((fp j = near → (ln' (sp j)).toInt ≤ (len near).toInt + rI cap clo j) ∧ (sp j = near → (ln' (fp j)).toInt ≤ (len near).toInt + rI cap clo j)) → Ed cap clo len ln' near (j + 1) := by
    intro ln' h1 h2 k hk hk17
    rcases Nat.lt_or_ge k j with h3 | h3
    · have h4 := hE k h3 hk17
      have h5 := h1 _ (fp_lt hk17)
      have h6 := h1 _ (sp_lt hk17)
      exact ⟨fun e => by have := h4.1 e; omega, fun e => by have := h4.2 e; omega⟩
    · have : k = j := by omega
      subst this
      exact h2
  by_cases g1 : nI near = nI (fp j)
  · rw [if_pos g1]
    have e1 : near = fp j := (nI_eq (by omega) (by omega)).mp g1
    obtain ⟨k1, k2, k3⟩ := rx_go hr hlen hn hs hj (Or.inl ⟨e1.symm, rfl⟩) h _ rfl
    exact ⟨k1, fin _ k2 ⟨fun _ => k3, fun e => absurd (e1.symm.trans e.symm) hfs⟩⟩
  · rw [if_neg g1]
    have e0 : ¬ fp j = near := fun e => g1 (by rw [e])
    by_cases g2 : nI near = nI (sp j)
    · rw [if_pos g2]
      have e1 : near = sp j := (nI_eq (by omega) (by omega)).mp g2
      obtain ⟨k1, k2, k3⟩ := rx_go hr hlen hn hf hj (Or.inr ⟨e1.symm, rfl⟩) h _ rfl
      exact ⟨k1, fin _ k2 ⟨fun e => absurd e e0, fun _ => k3⟩⟩
    · rw [if_neg g2]
      have e2 : ¬ sp j = near := fun e => g2 (by rw [e])
      exact ⟨h, fin _ (fun p _ => Int.le_refl _) ⟨fun e => absurd e e0, fun e => absurd e e2⟩⟩
theorem rx_all {cap clo len : Nat → Int32} {near : Nat} (hr : Rb cap clo 120) (hlen : ∀ p, p < 8 → 0 ≤ (len p).toInt ∧ (len p).toInt ≤ 100000) (hL : ∀ p, p < 8 → Ln cap clo len p) (hn : near < 8) : RX cap clo len near (g_shortest_d_l cap clo near len) ∧ Ed cap clo len (g_shortest_d_l cap clo near len) near 17 :=
  lpF_inv (fun j z => g_shortest_d_s cap clo near j z) (fun j z => RX cap clo len near z ∧ Ed cap clo len z near j) 17 (fun j z hj h => rx_step hr hlen hn hj h.1 h.2) 17 0 len rfl ⟨⟨fun p hp => ⟨(hlen p hp).1, Int.le_refl _⟩, fun _ _ _ => rfl, fun _ _ h => h, hL⟩, fun k hk => absurd hk (Nat.not_lt_zero k)⟩
/-- a turn's state -/
def DI (cap clo : Nat → Int32) (i : Nat) (z : (Nat → Int32) × (Nat → Int32)) : Prop :=
  cn8 z.2 8 = i ∧ (∀ p, p < 8 → 0 ≤ (z.1 p).toInt ∧ (z.1 p).toInt ≤ 100000) ∧ (z.1 6).toInt = 0 ∧
  (∀ p q, p < 8 → q < 8 → ¬ z.2 p = 0 → z.2 q = 0 → (z.1 p).toInt ≤ (z.1 q).toInt) ∧
  (∀ p, p < 8 → ¬ z.2 p = 0 → Ed cap clo z.1 z.1 p 17) ∧ (∀ p, p < 8 → Ln cap clo z.1 p)
def DX (cap clo : Nat → Int32) (z : (Nat → Int32) × (Nat → Int32)) : Prop :=
  (∀ p, p < 8 → 0 ≤ (z.1 p).toInt ∧ (z.1 p).toInt ≤ 100000) ∧ (z.1 6).toInt = 0 ∧ (∀ p, p < 8 → (z.1 7).toInt ≤ (z.1 p).toInt ∨ Ed cap clo z.1 z.1 p 17) ∧ Ln cap clo z.1 7
theorem cn8_full {set : Nat → Int32} : ∀ n, cn8 set n ≤ n ∧ (cn8 set n = n → ∀ p, p < n → ¬ set p = 0)
  | 0 => ⟨Nat.le_refl _, fun _ p hp => absurd hp (Nat.not_lt_zero p)⟩
  | n + 1 => by
    obtain ⟨h1, h2⟩ := cn8_full (set := set) n
    unfold cn8
    by_cases h0 : set n = 0
    · rw [if_pos h0]
      exact ⟨by omega, fun e => by omega⟩
    · rw [if_neg h0]
      refine ⟨by omega, fun e p hp => ?_⟩
      rcases Nat.lt_or_ge p n with h3 | h3
      · exact h2 (by omega) p h3
      · rw [show p = n by omega]; exact h0
theorem turn_step {cap clo : Nat → Int32} (hr : Rb cap clo 120) {i : Nat} {z : (Nat → Int32) × (Nat → Int32)} (hi : i < 8) (h : DI cap clo i z) : (∀ z', g_shortest_b_s cap clo i z.1 z.2 = (true, z') → DI cap clo (i + 1) z') ∧ (∀ z', g_shortest_b_s cap clo i z.1 z.2 = (false, z') → DX cap clo z') := by
  obtain ⟨len, set⟩ := z
  obtain ⟨h1, h2, h3, h4, h5, h6⟩ := h
  dsimp only at h1 h2 h3 h4 h5 h6
  obtain ⟨c, hc, e, h0, hm⟩ := NI_end (near_NI len set) (by omega)
  unfold g_shortest_b_s
  try dsimp only
  rw [e, nI_clamp (by omega)]
  by_cases g1 : nI c = 7
  · have hc7 : c = 7 := (nI_eq (a := c) (b := 7) (by omega) (by decide)).mp g1
    subst hc7
    rw [if_pos g1]
    refine ⟨fun z' e => (nomatch e), fun z' e => ?_⟩
    cases e
    refine ⟨h2, h3, fun p hp => ?_, h6 7 (by decide)⟩
    by_cases hs : set p = 0
    · exact Or.inl (ti_le.mp (hm p hp hs))
    · exact Or.inr (h5 p hp hs)
  · rw [if_neg g1]
    refine ⟨fun z' e => ?_, fun z' e => (nomatch e)⟩
    cases e
    obtain ⟨⟨k1, k2, k3, k4⟩, k5⟩ := rx_all hr h2 h6 hc
    have hset : ∀ p, p < 8 → ¬ upd set c 1 p = 0 → (len p).toInt ≤ (len c).toInt ∧ (p = c ∨ ¬ set p = 0) := by
      intro p hp hs
      by_cases hpc : p = c
      · subst hpc; exact ⟨Int.le_refl _, Or.inl rfl⟩
      · rw [upd_n _ _ hpc] at hs
        exact ⟨h4 p c hp hc hs h0, Or.inr hs⟩
    refine ⟨?_, fun p hp => ⟨(k1 p hp).1, Int.le_trans (k1 p hp).2 (h2 p hp).2⟩, ?_, fun p q hp hq hs hs0 => ?_, fun p hp hs => ?_, k4⟩
    · show cn8 (upd set c 1) 8 = i + 1
      rw [cn8_upd h0 8 hc, h1]
    · show (g_shortest_d_l cap clo c len 6).toInt = 0
      rw [k2 6 (by decide) (by rw [h3]; exact (h2 c hc).1), h3]
    · dsimp only at hs hs0 ⊢
      obtain ⟨a1, -⟩ := hset p hp hs
      have hqc : ¬ q = c := fun e => by subst e; rw [upd_s] at hs0; exact absurd hs0 (by decide)
      rw [upd_n _ _ hqc] at hs0
      have a2 := k3 q hq (ti_le.mp (hm q hq hs0))
      rw [k2 p hp a1]
      omega
    · dsimp only at hs ⊢
      obtain ⟨a1, a2⟩ := hset p hp hs
      intro k hk hk17
      have b1 := k1 _ (fp_lt hk17)
      have b2 := k1 _ (sp_lt hk17)
      rw [k2 p hp a1]
      rcases a2 with rfl | a2
      · exact k5 k hk hk17
      · have a3 := h5 p hp a2 k hk hk17
        exact ⟨fun e => by have := a3.1 e; omega, fun e => by have := a3.2 e; omega⟩
theorem short_DX {cap clo : Nat → Int32} (hr : Rb cap clo 120) (len set : Nat → Int32) : DX cap clo (g_shortest_b_l cap clo (upd ((g_shortest_a_l len set).1) 6 0) ((g_shortest_a_l len set).2)) := by
  have h0 := turn_0 len set
  refine lpB_inv (fun i z => g_shortest_b_s cap clo i z.1 z.2) (DI cap clo) (DX cap clo) 8 (fun i s s' hi h e => (turn_step hr hi h).1 s' e) (fun i s s' hi h e => (turn_step hr hi h).2 s' e) (fun s h => ?_) 8 0 _ rfl ?_
  · obtain ⟨h1, h2, h3, h4, h5, h6⟩ := h
    exact ⟨h2, h3, fun p hp => Or.inr (h5 p hp ((cn8_full 8).2 h1 p hp)), h6 7 (by decide)⟩
  · have hv : ∀ p, p < 8 → ((upd ((g_shortest_a_l len set).1) 6 0 p).toInt = 100000 ∧ p ≠ 6) ∨ ((upd ((g_shortest_a_l len set).1) 6 0 p).toInt = 0 ∧ p = 6) := by
      intro p hp
      by_cases h6 : p = 6
      · subst h6; rw [upd_s]; exact Or.inr ⟨ti_0, rfl⟩
      · rw [upd_n _ _ h6, (h0 p hp).1]; exact Or.inl ⟨by decide, h6⟩
    refine ⟨cn8_zero 8 (fun p hp => (h0 p hp).2), fun p hp => ?_, ?_, fun p q hp _ hs => absurd (h0 p hp).2 hs, fun p hp hs => absurd (h0 p hp).2 hs, fun p hp => ?_⟩
    · dsimp only
      rcases hv p hp with h | h <;> omega
    · dsimp only
      rw [upd_s]; exact ti_0
    · unfold Ln
      try dsimp only
      rcases hv p hp with h | ⟨h, h6⟩
      · exact Or.inl h.1
      · subst h6
        refine Or.inr ⟨fun _ => false, Bp_0, ?_⟩
        rw [h]
        have e : pw (rI cap clo) (fun _ => false) = 0 := by
          have e : pw (rI cap clo) (fun _ => false) = sm (fun _ => 0) 17 := sm_congr 17 (fun k _ => by simp)
          rw [e]; rfl
        rw [e]; exact Int.le_refl _
/-- lengths as a flow: every cut weighs at least the length of the whole way -/
def b2 (x : Bool) : Int := match x with
  | true => 1
  | false => 0
theorem tm_b2 (x y : Bool) (u : Int) : tm x y u = (b2 x - b2 y) * u := by
  cases x <;> cases y <;> simp [tm, b2]
def uD (d : Nat → Int) (k : Nat) : Int := if k < 9 then d (sp k) - d (fp k) else d (fp k) - d (sp k)
theorem dual_id (b0 b1 b2 b3 b4 b5 b6 b7 b8 b9 b10 b11 d0 d1 d2 d3 d4 d5 d6 d7 : Int) : 0 + (b0 - b1) * (d0 - d6) + (b1 - b2) * (d1 - d6) + (b2 - b3) * (d2 - d6) + (b4 - b5) * (d3 - d0) + (b5 - b6) * (d4 - d1) + (b6 - b7) * (d5 - d2) + (b8 - b9) * (d7 - d3) + (b9 - b10) * (d7 - d4) + (b10 - b11) * (d7 - d5) + (b0 - b4) * (d7 - d0) + (b1 - b5) * (d0 - d1) + (b2 - b6) * (d1 - d2) + (b3 - b7) * (d2 - d6) + (b4 - b8) * (d7 - d3) + (b5 - b9) * (d3 - d4) + (b6 - b10) * (d4 - d5) + (b7 - b11) * (d5 - d6) = (b0 - b11) * (d7 - d6) := by
  simp only [Int.sub_mul, Int.mul_sub]
  omega
theorem dual_sum (S : Nat → Bool) (d : Nat → Int) : sm (fun k => tm (S (fe k)) (S (se k)) (uD d k)) 17 = (b2 (S 0) - b2 (S 11)) * (d 7 - d 6) := by
  have e : sm (fun k => tm (S (fe k)) (S (se k)) (uD d k)) 17 = sm (fun k => (b2 (S (fe k)) - b2 (S (se k))) * uD d k) 17 := sm_congr 17 (fun k _ => tm_b2 _ _ _)
  rw [e]
  exact dual_id (b2 (S 0)) (b2 (S 1)) (b2 (S 2)) (b2 (S 3)) (b2 (S 4)) (b2 (S 5)) (b2 (S 6)) (b2 (S 7)) (b2 (S 8)) (b2 (S 9)) (b2 (S 10)) (b2 (S 11)) (d 0) (d 1) (d 2) (d 3) (d 4) (d 5) (d 6) (d 7)
theorem DX_le {cap clo : Nat → Int32} (hr : Rb cap clo 120) {z : (Nat → Int32) × (Nat → Int32)} (h : DX cap clo z) {S : Nat → Bool} (h0 : S 0 = true) (h11 : S 11 = false) : (z.1 7).toInt ≤ wt (rI cap clo) S := by
  obtain ⟨k1, k2, k3, -⟩ := h
  have hs := dual_sum S (fun p => min (z.1 p).toInt (z.1 7).toInt)
  rw [h0, h11] at hs
  have h7 := k1 7 (by decide)
  have hD : (b2 true - b2 false) * (min (z.1 7).toInt (z.1 7).toInt - min (z.1 6).toInt (z.1 7).toInt) = (z.1 7).toInt := by
    show (1 - 0) * _ = _
    rw [k2]
    omega
  rw [hD] at hs
  rw [← hs]
  refine sm_le 17 (fun k hk => ?_)
  have hrk := hr k hk
  have hf := k3 _ (fp_lt hk)
  have hss := k3 _ (sp_lt hk)
  have e1 : min (z.1 (sp k)).toInt (z.1 7).toInt ≤ min (z.1 (fp k)).toInt (z.1 7).toInt + rI cap clo k := by
    rcases hf with h | h
    · omega
    · have := (h k hk hk).1 rfl
      omega
  have e2 : min (z.1 (fp k)).toInt (z.1 7).toInt ≤ min (z.1 (sp k)).toInt (z.1 7).toInt + rI cap clo k := by
    rcases hss with h | h
    · omega
    · have := (h k hk hk).2 rfl
      omega
  refine tm_le ?_ ?_
  · unfold uD
    dsimp only
    split <;> omega
  · unfold uD
    dsimp only
    split <;> omega
/-- a way of streets in the second map as a cut -/
theorem sq : ∀ s t p a b q : Bool, xr s t = p → xr b (xr a (xr q (xr p false))) = false → xr (xr s a) (xr t b) = q := by decide
theorem sq1 : ∀ s p : Bool, xr s (xr s p) = p := by decide
theorem sq11 : ∀ a b c d e : Bool, xr e (xr d (xr c (xr b (xr a false)))) = true → xr (xr (xr (xr (xr true a) b) c) d) e = false := by decide
def S0r (P : Nat → Bool) : Nat → Bool
  | 0 => true
  | n + 1 => xr (S0r P n) (P n)
def ScP (P : Nat → Bool) (c : Nat) : Bool := if c < 4 then S0r P c else if c < 8 then xr (S0r P (c - 4)) (P (c + 5)) else xr (xr (S0r P (c - 8)) (P (c + 1))) (P (c + 5))
theorem ScP_ok {P : Nat → Bool} (h : Bp P 7) : ScP P 0 = true ∧ ScP P 11 = false ∧ ∀ k, k < 17 → xr (ScP P (fe k)) (ScP P (se k)) = P k := by
  have f0 : xr (P 10) (xr (P 9) (xr (P 3) (xr (P 0) false))) = false := h 0 (by decide)
  have f1 : xr (P 11) (xr (P 10) (xr (P 4) (xr (P 1) false))) = false := h 1 (by decide)
  have f2 : xr (P 12) (xr (P 11) (xr (P 5) (xr (P 2) false))) = false := h 2 (by decide)
  have f3 : xr (P 14) (xr (P 13) (xr (P 6) (xr (P 3) false))) = false := h 3 (by decide)
  have f4 : xr (P 15) (xr (P 14) (xr (P 7) (xr (P 4) false))) = false := h 4 (by decide)
  have f5 : xr (P 16) (xr (P 15) (xr (P 8) (xr (P 5) false))) = false := h 5 (by decide)
  have f6 : xr (P 16) (xr (P 12) (xr (P 2) (xr (P 1) (xr (P 0) false)))) = true := h 6 (by decide)
  have a0 : xr (ScP P 0) (ScP P 1) = P 0 := sq1 _ _
  have a1 : xr (ScP P 1) (ScP P 2) = P 1 := sq1 _ _
  have a2 : xr (ScP P 2) (ScP P 3) = P 2 := sq1 _ _
  have a3 : xr (ScP P 4) (ScP P 5) = P 3 := sq _ _ _ _ _ _ a0 f0
  have a4 : xr (ScP P 5) (ScP P 6) = P 4 := sq _ _ _ _ _ _ a1 f1
  have a5 : xr (ScP P 6) (ScP P 7) = P 5 := sq _ _ _ _ _ _ a2 f2
  have a6 : xr (ScP P 8) (ScP P 9) = P 6 := sq _ _ _ _ _ _ a3 f3
  have a7 : xr (ScP P 9) (ScP P 10) = P 7 := sq _ _ _ _ _ _ a4 f4
  have a8 : xr (ScP P 10) (ScP P 11) = P 8 := sq _ _ _ _ _ _ a5 f5
  have a9 : xr (ScP P 0) (ScP P 4) = P 9 := sq1 _ _
  have a10 : xr (ScP P 1) (ScP P 5) = P 10 := sq1 _ _
  have a11 : xr (ScP P 2) (ScP P 6) = P 11 := sq1 _ _
  have a12 : xr (ScP P 3) (ScP P 7) = P 12 := sq1 _ _
  have a13 : xr (ScP P 4) (ScP P 8) = P 13 := sq1 _ _
  have a14 : xr (ScP P 5) (ScP P 9) = P 14 := sq1 _ _
  have a15 : xr (ScP P 6) (ScP P 10) = P 15 := sq1 _ _
  have a16 : xr (ScP P 7) (ScP P 11) = P 16 := sq1 _ _
  refine ⟨rfl, sq11 _ _ _ _ _ f6, fun k hk => ?_⟩
  match k, hk with
  | 0, _ => exact a0
  | 1, _ => exact a1
  | 2, _ => exact a2
  | 3, _ => exact a3
  | 4, _ => exact a4
  | 5, _ => exact a5
  | 6, _ => exact a6
  | 7, _ => exact a7
  | 8, _ => exact a8
  | 9, _ => exact a9
  | 10, _ => exact a10
  | 11, _ => exact a11
  | 12, _ => exact a12
  | 13, _ => exact a13
  | 14, _ => exact a14
  | 15, _ => exact a15
  | 16, _ => exact a16
  | n + 17, h => exact absurd h (by omega)
theorem ScP_wt {r : Nat → Int} {P : Nat → Bool} (h : Bp P 7) : wt r (ScP P) = pw r P := by
  refine sm_congr 17 (fun k hk => ?_)
  unfold wtk
  try dsimp only
  have e := (ScP_ok h).2.2 k hk
  rw [← e]
  cases ScP P (fe k) <;> cases ScP P (se k) <;> simp [xr]
/-- Vd for one source and one sink -/
theorem b_2048 : ∀ c, c < 32 → bt 2048 c = decide (c = 11) := by decide +kernel
theorem Vd_1 {S : Nat → Bool} : Vd 1 2048 S ↔ S 0 = true ∧ S 11 = false := by
  constructor
  · intro h
    exact ⟨h.1 0 (by decide) (by decide), h.2 11 (by decide) (by decide)⟩
  · intro h
    refine ⟨fun c _ hb => ?_, fun c hc hb => ?_⟩
    · rw [b_1] at hb
      rw [of_decide_eq_true hb]; exact h.1
    · rw [b_2048 c (by omega)] at hb
      rw [of_decide_eq_true hb]; exact h.2
theorem short_least {cap clo : Nat → Int32} (hr : Rb cap clo 120) (len set : Nat → Int32) : Mn (rI cap clo) 1 2048 (g_shortest cap clo len set).1.toInt := by
  have h := short_DX hr len set
  have hle : ∀ S, Vd 1 2048 S → (g_shortest cap clo len set).1.toInt ≤ wt (rI cap clo) S := fun S hS => DX_le hr h (Vd_1.mp hS).1 (Vd_1.mp hS).2
  refine ⟨?_, hle⟩
  have hb : Vd 1 2048 (fun c => decide (c = 0)) := Vd_1.mpr ⟨rfl, rfl⟩
  have h1 := hle _ hb
  have h2 := (wt_bd hr (fun c => decide (c = 0))).2
  rcases h.2.2.2 with h3 | ⟨P, h3, h4⟩
  · have h3' : (g_shortest cap clo len set).1.toInt = 100000 := h3
    omega
  · have hv : Vd 1 2048 (ScP P) := Vd_1.mpr ⟨(ScP_ok h3).1, (ScP_ok h3).2.1⟩
    refine ⟨ScP P, hv, ?_⟩
    have h5 := hle _ hv
    rw [ScP_wt h3] at h5 ⊢
    have h4' : pw (rI cap clo) P ≤ (g_shortest cap clo len set).1.toInt := h4
    omega
end
section
set_option maxRecDepth 100000
/-! the model's weighing, in whole numbers -/
theorem bI_eq {x : Int32} {a b : Nat} (ha : a < 31) (hb : b < 31) : ((x >>> (nI a &&& 31)) &&& 1) = ((x >>> (nI b &&& 31)) &&& 1) ↔ bt x a = bt x b := by
  rw [bI_if x ha, bI_if x hb]
  cases bt x a <;> cases bt x b <;> decide
def OTw (one two : Nat → Int32) : Prop := ∀ k, k < 17 → one k = nI (fe k) ∧ two k = nI (se k)
theorem weigh_step {siz shu one two : Nat → Int32} (ho : OTw one two) (hr : Rb siz shu 120) {cut z : Int32} {i : Nat} (hi : i < 17) (h : z.toInt = sm (wtk (rI siz shu) (bt cut)) i) : (m_weigh_a_s siz shu one two cut i z).toInt = sm (wtk (rI siz shu) (bt cut)) (i + 1) := by
  have hb := sm_bd (f := wtk (rI siz shu) (bt cut)) (c := 120) i (fun k hk => by
    have := hr k (by omega)
    unfold wtk
    split <;> omega)
  have hri := hr i hi
  have hf := fe_lt hi
  have hs := se_lt hi
  show _ = sm (wtk (rI siz shu) (bt cut)) i + wtk (rI siz shu) (bt cut) i
  unfold m_weigh_a_s wtk
  rw [(ho i hi).1, (ho i hi).2]
  by_cases h1 : bt cut (fe i) = bt cut (se i)
  · rw [if_pos ((bI_eq (by omega) (by omega)).mpr h1), if_pos h1, h]
    exact (Int.add_zero _).symm
  · rw [if_neg (fun e => h1 ((bI_eq (by omega) (by omega)).mp e)), if_neg h1]
    have e : (m_open siz shu i).toInt = rI siz shu i := rfl
    have h120 : (120 : Int) * (i : Int) ≤ 2040 := by omega
    rw [ti_add (by rw [e, h]; omega) (by rw [e, h]; omega), e, h]
    rfl
theorem weigh_spec {siz shu one two : Nat → Int32} (ho : OTw one two) (hr : Rb siz shu 120) (cut : Int32) : (m_weigh siz shu one two cut).toInt = wt (rI siz shu) (bt cut) :=
  lpF_inv (fun i z => m_weigh_a_s siz shu one two cut i z) (fun i z => z.toInt = sm (wtk (rI siz shu) (bt cut)) i) 17 (fun i z hi h => weigh_step ho hr hi h) 17 0 0 rfl ti_0
def cnd (k side : Int32) (i : Nat) : Prop := ((nI (2 * i + 1) >>> (k &&& 31)) &&& 1) = side
def wi (r : Nat → Int) (i : Nat) : Int := wt r (bt (nI (2 * i + 1)))
def LI (r : Nat → Int) (k side : Int32) (n : Nat) (z : Int32) : Prop := (z = (-1) ∧ ∀ i, i < n → ¬ cnd k side i) ∨ ((∃ i, i < n ∧ cnd k side i ∧ z.toInt = wi r i) ∧ ∀ i, i < n → cnd k side i → z.toInt ≤ wi r i)
theorem LI_new {r : Nat → Int} {k side : Int32} {n : Nat} {w : Int32} (hc : cnd k side n) (hw : w.toInt = wi r n) (h : ∀ i, i < n → cnd k side i → w.toInt ≤ wi r i) : LI r k side (n + 1) w := by
  refine Or.inr ⟨⟨n, by omega, hc, hw⟩, fun i hi hci => ?_⟩
  rcases Nat.lt_or_ge i n with h1 | h1
  · exact h i h1 hci
  · have : i = n := by omega
    subst this
    omega
theorem LI_step {siz shu one two : Nat → Int32} (ho : OTw one two) (hr : Rb siz shu 120) {k side z : Int32} {n : Nat} (h : LI (rI siz shu) k side n z) : LI (rI siz shu) k side (n + 1) (m_least_a_s siz shu one two k side n z) := by
  have hw : (m_weigh siz shu one two (nI (2 * n + 1))).toInt = wi (rI siz shu) n := weigh_spec ho hr _
  have h0 : ∀ i, 0 ≤ wi (rI siz shu) i := fun i => (wt_bd hr (bt (nI (2 * i + 1)))).1
  unfold m_least_a_s
  by_cases hc : ((nI (2 * n + 1) >>> (k &&& 31)) &&& 1) = side
  · rw [if_pos hc]
    by_cases hz : z < 0
    · rw [if_pos hz]
      refine LI_new hc hw (fun i hi hci => ?_)
      rcases h with ⟨-, h⟩ | ⟨⟨i', -, -, h⟩, -⟩
      · exact absurd hci (h i hi)
      · rw [ti_lt, ti_0, h] at hz
        have := h0 i'
        omega
    · rw [if_neg hz]
      rcases h with ⟨h, -⟩ | ⟨⟨i', h1, h2, h3⟩, h4⟩
      · rw [h] at hz; exact absurd (by decide) hz
      · by_cases hl : z ≤ m_weigh siz shu one two (nI (2 * n + 1))
        · rw [if_pos hl]
          rw [ti_le, hw] at hl
          refine Or.inr ⟨⟨i', by omega, h2, h3⟩, fun i hi hci => ?_⟩
          rcases Nat.lt_or_ge i n with h5 | h5
          · exact h4 i h5 hci
          · have : i = n := by omega
            subst this
            exact hl
        · rw [if_neg hl]
          rw [ti_le, hw] at hl
          refine LI_new hc hw (fun i hi hci => ?_)
          have := h4 i hi hci
          omega
  · rw [if_neg hc]
    rcases h with ⟨h, h1⟩ | ⟨⟨i', h1, h2, h3⟩, h4⟩
    · refine Or.inl ⟨h, fun i hi hci => ?_⟩
      rcases Nat.lt_or_ge i n with h5 | h5
      · exact h1 i h5 hci
      · have : i = n := by omega
        subst this
        exact hc hci
    · refine Or.inr ⟨⟨i', by omega, h2, h3⟩, fun i hi hci => ?_⟩
      rcases Nat.lt_or_ge i n with h5 | h5
      · exact h4 i h5 hci
      · have : i = n := by omega
        subst this
        exact absurd hci hc
theorem least_spec {siz shu one two : Nat → Int32} (ho : OTw one two) (hr : Rb siz shu 120) (k side : Int32) (hex : ∃ i, i < 1024 ∧ cnd k side i) : (∃ i, i < 1024 ∧ cnd k side i ∧ (m_least siz shu one two k side).toInt = wi (rI siz shu) i) ∧ ∀ i, i < 1024 → cnd k side i → (m_least siz shu one two k side).toInt ≤ wi (rI siz shu) i := by
  have hh : LI (rI siz shu) k side 1024 (m_least siz shu one two k side) := lpF_inv (fun i z => m_least_a_s siz shu one two k side i z) (LI (rI siz shu) k side) 1024 (fun i z _ h => LI_step ho hr h) 1024 0 (-1) rfl (Or.inl ⟨rfl, fun i hi => absurd hi (Nat.not_lt_zero i)⟩)
  rcases hh with ⟨-, h⟩ | h
  · obtain ⟨i, hi, hc⟩ := hex
    exact absurd hc (h i hi)
  · exact h
/-- a set as a number -/
def en (S : Nat → Bool) : Nat → Nat
  | 0 => 0
  | n + 1 => if S (n + 1) = true then 2 ^ n + en S n else en S n
theorem en_lt (S : Nat → Bool) : ∀ n, en S n < 2 ^ n
  | 0 => by unfold en; decide
  | n + 1 => by
    have h := en_lt S n
    have e : 2 ^ (n + 1) = 2 ^ n + 2 ^ n := by rw [Nat.pow_succ]; omega
    unfold en
    split <;> omega
theorem en_bit (S : Nat → Bool) : ∀ n c, c < n → (en S n).testBit c = S (c + 1)
  | 0, c, h => absurd h (Nat.not_lt_zero c)
  | n + 1, c, h => by
    have hl := en_lt S n
    unfold en
    rcases Nat.lt_or_ge c n with h1 | h1
    · split
      · rw [Nat.testBit_two_pow_add_gt h1]; exact en_bit S n c h1
      · exact en_bit S n c h1
    · have : c = n := by omega
      subst this
      split
      · rename_i hs
        rw [Nat.testBit_two_pow_add_eq, Nat.testBit_lt_two_pow hl, hs]; rfl
      · rename_i hs
        rw [Nat.testBit_lt_two_pow hl]
        cases hb : S (c + 1) with
        | false => rfl
        | true => exact absurd hb hs
theorem bt_nI (m c : Nat) (hc : c < 32) : bt (nI m) c = m.testBit c := by
  show (BitVec.ofNat 32 m).getLsbD c = _
  rw [BitVec.getLsbD_ofNat, decide_eq_true hc, Bool.true_and]
theorem cut_0 (i : Nat) : bt (nI (2 * i + 1)) 0 = true := by
  rw [bt_nI _ _ (by decide), Nat.testBit_zero]
  exact decide_eq_true (by omega)
theorem cut_hi {i c : Nat} (hi : i < 1024) (hc : 11 ≤ c) (hc2 : c < 32) : bt (nI (2 * i + 1)) c = false := by
  rw [bt_nI _ _ hc2]
  refine Nat.testBit_lt_two_pow (Nat.lt_of_lt_of_le (show 2 * i + 1 < 2 ^ 11 by omega) (Nat.pow_le_pow_right (by decide) hc))
theorem enc {S : Nat → Bool} (h0 : S 0 = true) (h11 : S 11 = false) : ∃ i, i < 1024 ∧ ∀ c, c < 12 → bt (nI (2 * i + 1)) c = S c := by
  refine ⟨en S 10, en_lt S 10, fun c hc => ?_⟩
  cases c with
  | zero => rw [cut_0, h0]
  | succ c =>
    rw [bt_nI _ _ (by omega), Nat.testBit_succ, show (2 * en S 10 + 1) / 2 = en S 10 by omega]
    rcases Nat.lt_or_ge c 10 with h | h
    · exact en_bit S 10 c h
    · have : c = 10 := by omega
      subst this
      rw [h11]; exact Nat.testBit_lt_two_pow (en_lt S 10)
theorem Vd_congr {src snk : Int32} {S T : Nat → Bool} (e : ∀ c, c < 12 → T c = S c) (h : Vd src snk S) : Vd src snk T := ⟨fun c hc hb => by rw [e c hc]; exact h.1 c hc hb, fun c hc hb => by rw [e c hc]; exact h.2 c hc hb⟩
theorem least_Mn {siz shu one two : Nat → Int32} (ho : OTw one two) (hr : Rb siz shu 120) {src snk k side : Int32} (h1 : ∀ S, Vd src snk S → S 0 = true ∧ S 11 = false) (h2 : ∀ i, i < 1024 → (cnd k side i ↔ Vd src snk (bt (nI (2 * i + 1))))) (hex : Vd src snk (bt src)) : Mn (rI siz shu) src snk (m_least siz shu one two k side).toInt := by
  have ex : ∀ S, Vd src snk S → ∃ i, i < 1024 ∧ cnd k side i ∧ wi (rI siz shu) i = wt (rI siz shu) S := by
    intro S hS
    obtain ⟨i, hi, e⟩ := enc (h1 S hS).1 (h1 S hS).2
    exact ⟨i, hi, (h2 i hi).mpr (Vd_congr e hS), wt_congr e⟩
  obtain ⟨i0, hi0, hc0, -⟩ := ex _ hex
  obtain ⟨⟨i, hi, hc, e⟩, hle⟩ := least_spec ho hr k side ⟨i0, hi0, hc0⟩
  refine ⟨⟨_, (h2 i hi).mp hc, e.symm⟩, fun S hS => ?_⟩
  obtain ⟨j, hj, hcj, ej⟩ := ex S hS
  rw [← ej]; exact hle j hj hcj
theorem Mn_uniq {r : Nat → Int} {src snk : Int32} {w w' : Int} (h : Mn r src snk w) (h' : Mn r src snk w') : w = w' := by
  obtain ⟨⟨S, hS, e⟩, h1⟩ := h
  obtain ⟨⟨T, hT, e'⟩, h1'⟩ := h'
  have a := h1 T hT
  have b := h1' S hS
  omega
theorem Vd_1s : Vd 1 2048 (bt 1) := Vd_1.mpr ⟨by decide, by decide⟩
theorem Vd_cut {i : Nat} (hi : i < 1024) : Vd 1 2048 (bt (nI (2 * i + 1))) := Vd_1.mpr ⟨cut_0 i, cut_hi hi (by decide) (by decide)⟩
theorem least_01 {siz shu one two : Nat → Int32} (ho : OTw one two) (hr : Rb siz shu 120) : Mn (rI siz shu) 1 2048 (m_least siz shu one two 0 1).toInt :=
  least_Mn ho hr (fun S h => Vd_1.mp h) (fun i hi => ⟨fun _ => Vd_cut hi, fun _ => (bI_1 (c := 0) (by decide)).mpr (cut_0 i)⟩) Vd_1s
theorem bt_one {o c : Nat} (ho : o < 32) (hc : c < 32) : bt (1 <<< (nI o &&& 31)) c = decide (c = o) := by
  have h := bt_set 0 ho hc
  rw [b_or, b_0, Bool.false_or, Bool.false_or] at h
  exact h
/-- a crossing is taken in -/
theorem Vd_with {k : Nat} (hk : k < 12) {S : Nat → Bool} : Vd ((1 : Int32) ||| (1 <<< (nI k &&& 31))) 2048 S ↔ S 0 = true ∧ S k = true ∧ S 11 = false := by
  have hb : ∀ c, c < 12 → bt ((1 : Int32) ||| (1 <<< (nI k &&& 31))) c = (decide (c = 0) || decide (c = k)) := fun c hc => by rw [bt_set 1 (by omega) (by omega), b_1]
  constructor
  · intro h
    refine ⟨h.1 0 (by decide) ?_, h.1 k hk ?_, h.2 11 (by decide) (by decide)⟩
    · rw [hb 0 (by decide)]; rfl
    · rw [hb k hk, decide_eq_true (rfl : k = k), Bool.or_true]
  · intro h
    refine ⟨fun c hc hbc => ?_, fun c hc hbc => ?_⟩
    · rw [hb c hc] at hbc
      rcases Bool.or_eq_true_iff.mp hbc with e | e
      · rw [of_decide_eq_true e]; exact h.1
      · rw [of_decide_eq_true e]; exact h.2.1
    · rw [b_2048 c (by omega)] at hbc
      rw [of_decide_eq_true hbc]; exact h.2.2
theorem Vd_without {k : Nat} (hk : k < 12) {S : Nat → Bool} : Vd 1 ((2048 : Int32) ||| (1 <<< (nI k &&& 31))) S ↔ S 0 = true ∧ S k = false ∧ S 11 = false := by
  have hb : ∀ c, c < 12 → bt ((2048 : Int32) ||| (1 <<< (nI k &&& 31))) c = (decide (c = 11) || decide (c = k)) := fun c hc => by rw [bt_set 2048 (by omega) (by omega), b_2048 c (by omega)]
  constructor
  · intro h
    refine ⟨h.1 0 (by decide) (by decide), h.2 k hk ?_, h.2 11 (by decide) ?_⟩
    · rw [hb k hk, decide_eq_true (rfl : k = k), Bool.or_true]
    · rw [hb 11 (by decide)]; rfl
  · intro h
    refine ⟨fun c hc hbc => ?_, fun c hc hbc => ?_⟩
    · rw [b_1] at hbc
      rw [of_decide_eq_true hbc]; exact h.1
    · rw [hb c hc] at hbc
      rcases Bool.or_eq_true_iff.mp hbc with e | e
      · rw [of_decide_eq_true e]; exact h.2.2
      · rw [of_decide_eq_true e]; exact h.2.1
theorem with_src {k : Nat} (hk : k < 12) (h11 : ¬ k = 11) : Vd ((1 : Int32) ||| (1 <<< (nI k &&& 31))) 2048 (bt ((1 : Int32) ||| (1 <<< (nI k &&& 31)))) := by
  refine (Vd_with hk).mpr ⟨?_, ?_, ?_⟩
  · rw [bt_set 1 (by omega) (by decide), b_1]; rfl
  · rw [bt_set 1 (by omega) (by omega), decide_eq_true (rfl : k = k), Bool.or_true]
  · rw [bt_set 1 (by omega) (by decide), b_1, decide_eq_false (show ¬ 11 = k from fun e => h11 e.symm)]; rfl
theorem without_src {k : Nat} (hk : k < 12) (h0 : ¬ k = 0) : Vd 1 ((2048 : Int32) ||| (1 <<< (nI k &&& 31))) (bt 1) := by
  refine (Vd_without hk).mpr ⟨by decide, ?_, by decide⟩
  rw [b_1]; exact decide_eq_false h0
theorem least_with {siz shu one two : Nat → Int32} (ho : OTw one two) (hr : Rb siz shu 120) {k : Nat} (hk : k < 12) (h11 : ¬ k = 11) : Mn (rI siz shu) ((1 : Int32) ||| (1 <<< (nI k &&& 31))) 2048 (m_least siz shu one two (nI k) 1).toInt :=
  least_Mn ho hr (fun S h => ⟨((Vd_with hk).mp h).1, ((Vd_with hk).mp h).2.2⟩) (fun i hi => ⟨fun h => (Vd_with hk).mpr ⟨cut_0 i, (bI_1 (by omega)).mp h, cut_hi hi (by decide) (by decide)⟩, fun h => (bI_1 (by omega)).mpr ((Vd_with hk).mp h).2.1⟩) (with_src hk h11)
theorem least_without {siz shu one two : Nat → Int32} (ho : OTw one two) (hr : Rb siz shu 120) {k : Nat} (hk : k < 12) (h0 : ¬ k = 0) : Mn (rI siz shu) 1 ((2048 : Int32) ||| (1 <<< (nI k &&& 31))) (m_least siz shu one two (nI k) 0).toInt :=
  least_Mn ho hr (fun S h => ⟨((Vd_without hk).mp h).1, ((Vd_without hk).mp h).2.2⟩) (fun i hi => ⟨fun h => (Vd_without hk).mpr ⟨cut_0 i, (bI_0 (by omega)).mp h, cut_hi hi (by decide) (by decide)⟩, fun h => (bI_0 (by omega)).mpr ((Vd_without hk).mp h).2.1⟩) (without_src hk h0)
end
section
set_option maxRecDepth 100000
/-! what can be reached: the least closed set -/
def sb (x y : Int32) : Prop := ∀ c, c < 32 → bt x c = true → bt y c = true
theorem sb_rf (x : Int32) : sb x x := fun _ _ h => h
theorem sb_tr {x y z : Int32} (h : sb x y) (h' : sb y z) : sb x z := fun c hc hb => h' c hc (h c hc hb)
theorem sb_anti {x y : Int32} (h : sb x y) (h' : sb y x) : x = y := b_ext (fun c hc => by
  cases hx : bt x c with
  | true => rw [h c hc hx]
  | false =>
    cases hy : bt y c with
    | false => rfl
    | true => rw [h' c hc hy] at hx; cases hx)
theorem lpF_sb {f : Nat → Int32 → Int32} {N : Nat} (hf : ∀ i x, i < N → sb x (f i x)) : ∀ n i x, i + n ≤ N → sb x (lpF f n i x) := by
  intro n
  induction n with
  | zero => intro i x _; rw [lpF_0]; exact sb_rf x
  | succ n ih => intro i x h; rw [lpF_s]; exact sb_tr (hf i x (by omega)) (ih (i + 1) _ (by omega))
theorem lpF_fix {f : Nat → Int32 → Int32} {N : Nat} (hf : ∀ i x, i < N → sb x (f i x)) : ∀ n i x, i + n ≤ N → lpF f n i x = x → ∀ j, i ≤ j → j < i + n → f j x = x := by
  intro n
  induction n with
  | zero => intro i x _ _ j h1 h2; omega
  | succ n ih =>
    intro i x h e j h1 h2
    rw [lpF_s] at e
    have h3 := lpF_sb hf n (i + 1) (f i x) (by omega)
    rw [e] at h3
    have h4 : f i x = x := sb_anti h3 (hf i x (by omega))
    by_cases hj : j = i
    · subst hj; exact h4
    · rw [h4] at e
      exact ih (i + 1) x (by omega) e j (by omega) (by omega)
theorem lpF_in {f : Nat → Int32 → Int32} {N : Nat} {y : Int32} (hf : ∀ i x, i < N → sb x y → sb (f i x) y) : ∀ n i x, i + n ≤ N → sb x y → sb (lpF f n i x) y := by
  intro n
  induction n with
  | zero => intro i x _ h; rw [lpF_0]; exact h
  | succ n ih => intro i x h h1; rw [lpF_s]; exact ih (i + 1) _ (by omega) (hf i x (by omega) h1)
theorem lpF_hi {f : Nat → Int32 → Int32} {N : Nat} {c : Nat} (hf : ∀ i x, i < N → bt (f i x) c = bt x c) : ∀ n i x, i + n ≤ N → bt (lpF f n i x) c = bt x c := by
  intro n
  induction n with
  | zero => intro i x _; rw [lpF_0]
  | succ n ih => intro i x h; rw [lpF_s, ih (i + 1) _ (by omega), hf i x (by omega)]
theorem cU_le {x y : Int32} (h : sb x y) : ∀ n, n ≤ 32 → cU y n ≤ cU x n
  | 0, _ => Nat.le_refl _
  | n + 1, hn => by
    have ih := cU_le h n (by omega)
    unfold cU
    by_cases h1 : bt x n = true
    · rw [if_pos h1, if_pos (h n (by omega) h1)]; omega
    · rw [if_neg h1]; split <;> omega
theorem cU_eq {x y : Int32} (h : sb x y) : ∀ n, n ≤ 32 → cU y n = cU x n → ∀ c, c < n → bt x c = bt y c
  | 0, _, _, c, hc => absurd hc (Nat.not_lt_zero c)
  | n + 1, hn, e, c, hc => by
    have hl := cU_le h n (by omega)
    unfold cU at e
    have key : cU y n = cU x n ∧ bt x n = bt y n := by
      cases h1 : bt x n with
      | true =>
        rw [h1, h n (by omega) h1, if_pos rfl] at e
        exact ⟨by omega, (h n (by omega) h1).symm⟩
      | false =>
        have e1 : (if bt x n = true then 0 else 1) = 1 := if_neg (by rw [h1]; decide)
        rw [e1] at e
        cases h2 : bt y n with
        | false =>
          have e2 : (if bt y n = true then 0 else 1) = 1 := if_neg (by rw [h2]; decide)
          rw [e2] at e; exact ⟨by omega, rfl⟩
        | true => rw [h2, if_pos rfl] at e; omega
    rcases Nat.lt_or_ge c n with h3 | h3
    · exact cU_eq h n (by omega) key.1 c h3
    · rw [show c = n by omega]; exact key.2
theorem cU_lt {x : Int32} {o : Nat} (h : bt x o = true) : ∀ n, cU x n ≤ n ∧ (o < n → cU x n < n)
  | 0 => ⟨Nat.le_refl _, fun h => absurd h (Nat.not_lt_zero o)⟩
  | n + 1 => by
    obtain ⟨h1, h2⟩ := cU_lt h n
    unfold cU
    refine ⟨by split <;> omega, fun hn => ?_⟩
    rcases Nat.lt_or_ge o n with h3 | h3
    · have := h2 h3
      split <;> omega
    · have : o = n := by omega
      subst this
      rw [if_pos h]; omega
theorem rounds {f : Nat → Int32 → Int32} {F : Int32 → Int32} (hF : ∀ i x, f i x = F x) (h1 : ∀ x, sb x (F x)) (h2 : ∀ x c, 12 ≤ c → c < 32 → bt (F x) c = bt x c) : ∀ n i x, F (lpF f n i x) = lpF f n i x ∨ cU (lpF f n i x) 12 + n ≤ cU x 12 := by
  intro n
  induction n with
  | zero => intro i x; rw [lpF_0]; exact Or.inr (Nat.le_refl _)
  | succ n ih =>
    intro i x
    rw [lpF_s, hF]
    rcases ih (i + 1) (F x) with h | h
    · exact Or.inl h
    · have hle := cU_le (h1 x) 12 (by decide)
      by_cases he : cU (F x) 12 = cU x 12
      · have hfx : F x = x := b_ext (fun c hc => by
          rcases Nat.lt_or_ge c 12 with h3 | h3
          · exact (cU_eq (h1 x) 12 (by decide) he c h3).symm
          · exact h2 x c h3 hc)
        have stay : ∀ n i, lpF f n i x = x := by
          intro n
          induction n with
          | zero => intro i; rw [lpF_0]
          | succ n ih2 => intro i; rw [lpF_s, hF, hfx]; exact ih2 (i + 1)
        rw [hfx, stay]
        exact Or.inl hfx
      · exact Or.inr (by omega)
/-- closed under the steps a -> b with L -/
theorem closure {f g : Nat → Int32 → Int32} {N : Nat} (hg : ∀ i x, g i x = lpF f N 0 x) (hf : ∀ i x, i < N → sb x (f i x)) (h2 : ∀ i x c, i < N → 12 ≤ c → c < 32 → bt (f i x) c = bt x c) {start : Int32} {o : Nat} (ho : o < 12) (hs : bt start o = true) : ∀ R, lpF g 12 0 start = R → sb start R ∧ (∀ c, 12 ≤ c → c < 32 → bt R c = bt start c) ∧ (∀ j, j < N → f j R = R) ∧ (∀ y, sb start y → (∀ i x, i < N → sb x y → sb (f i x) y) → sb R y) := by
  intro R hR
  have a1 : ∀ x, sb x (lpF f N 0 x) := fun x => lpF_sb hf N 0 x (by omega)
  have a2 : ∀ x c, 12 ≤ c → c < 32 → bt (lpF f N 0 x) c = bt x c := fun x c h3 h4 => lpF_hi (fun i x hi => h2 i x c hi h3 h4) N 0 x (by omega)
  refine ⟨?_, fun c h3 h4 => ?_, fun j hj => ?_, fun y hy hc => ?_⟩
  · rw [← hR]; exact lpF_sb (N := 12) (fun i x _ => by rw [hg]; exact a1 x) 12 0 start (by decide)
  · rw [← hR]; exact lpF_hi (N := 12) (fun i x _ => by rw [hg]; exact a2 x c h3 h4) 12 0 start (by decide)
  · have h5 := rounds (F := lpF f N 0) hg a1 a2 12 0 start
    rw [hR] at h5
    rcases h5 with h5 | h5
    · exact lpF_fix hf N 0 R (by omega) h5 j (by omega) (by omega)
    · have := (cU_lt hs 12).2 ho
      omega
  · rw [← hR]
    exact lpF_in (N := 12) (fun i x _ h => by rw [hg]; exact lpF_in hc N 0 x (by omega) h) 12 0 start (by decide) hy
def stp (x : Int32) (a b : Nat) (L : Int32) : Int32 := if ((x >>> (nI a &&& 31)) &&& 1) = 1 then (if L ≤ 0 then x else x ||| (1 <<< (nI b &&& 31))) else x
def aj (j : Nat) : Nat := if j % 2 = 0 then fe (j / 2) else se (j / 2)
def bj (j : Nat) : Nat := if j % 2 = 0 then se (j / 2) else fe (j / 2)
def Lj (cap clo use : Nat → Int32) (on : Int32) (j : Nat) : Int32 := g_left cap clo use (j / 2) (nI (if on = 0 then bj j else aj j))
theorem aj_lt {j : Nat} (hj : j < 34) : aj j < 12 := by
  unfold aj
  split
  · exact fe_lt (by omega)
  · exact se_lt (by omega)
theorem bj_lt {j : Nat} (hj : j < 34) : bj j < 12 := by
  unfold bj
  split
  · exact se_lt (by omega)
  · exact fe_lt (by omega)
theorem rb_eq (cap clo use : Nat → Int32) (on : Int32) (j : Nat) (x : Int32) : g_reached_b_s cap clo use on j x = stp x (aj j) (bj j) (Lj cap clo use on j) := by
  unfold g_reached_b_s stp Lj aj bj
  by_cases h1 : j % 2 = 0
  · rw [if_pos (show nI (j % 2) = 0 by rw [h1]; rfl), if_pos h1, if_pos h1]
    by_cases h2 : on = 0
    · rw [if_pos h2, if_pos h2]
    · rw [if_neg h2, if_neg h2]
  · rw [if_neg (show ¬ nI (j % 2) = 0 by rw [show j % 2 = 1 by omega]; decide), if_neg h1, if_neg h1]
    by_cases h2 : on = 0
    · rw [if_pos h2, if_pos h2]
    · rw [if_neg h2, if_neg h2]
theorem stp_sb (x : Int32) (a b : Nat) (L : Int32) : sb x (stp x a b L) := by
  unfold stp
  split
  · split
    · exact sb_rf x
    · intro c hc hb; rw [b_or, hb, Bool.true_or]
  · exact sb_rf x
theorem stp_hi {x : Int32} {a b : Nat} {L : Int32} {c : Nat} (hb : b < 12) (h : 12 ≤ c) (hc : c < 32) : bt (stp x a b L) c = bt x c := by
  unfold stp
  split
  · split
    · rfl
    · rw [bt_set x (by omega) hc, decide_eq_false (by omega), Bool.or_false]
  · rfl
theorem stp_in {x y : Int32} {a b : Nat} {L : Int32} (ha : a < 12) (hb : b < 12) (hy : bt y a = true → 0 < L → bt y b = true) (h : sb x y) : sb (stp x a b L) y := by
  unfold stp
  split
  · rename_i h1
    split
    · exact h
    · rename_i h2
      intro c hc hbc
      rw [bt_set x (by omega) hc] at hbc
      rcases Bool.or_eq_true_iff.mp hbc with e | e
      · exact h c hc e
      · rw [of_decide_eq_true e]
        exact hy (h a (by omega) ((bI_1 (by omega)).mp h1)) (Int32.not_le.mp h2)
  · exact h
theorem stp_fix {x : Int32} {a b : Nat} {L : Int32} (ha : a < 12) (hb : b < 12) (h : stp x a b L = x) (h1 : bt x a = true) (h2 : 0 < L) : bt x b = true := by
  unfold stp at h
  rw [if_pos ((bI_1 (by omega)).mpr h1), if_neg (Int32.not_le.mpr h2)] at h
  rw [← h, bt_set x (by omega) (by omega), decide_eq_true rfl, Bool.or_true]
/-- nothing leads out of y -/
def Fw (cap clo use : Nat → Int32) (on y : Int32) : Prop := ∀ j, j < 34 → bt y (aj j) = true → 0 < Lj cap clo use on j → bt y (bj j) = true
theorem reached_spec (cap clo use : Nat → Int32) (on : Int32) {start : Int32} {o : Nat} (ho : o < 12) (hs : bt start o = true) : sb start (g_reached cap clo use start on) ∧ (∀ c, 12 ≤ c → c < 32 → bt (g_reached cap clo use start on) c = bt start c) ∧ Fw cap clo use on (g_reached cap clo use start on) ∧ (∀ y, sb start y → Fw cap clo use on y → sb (g_reached cap clo use start on) y) := by
  obtain ⟨h1, h2, h3, h4⟩ := closure (f := fun j z => g_reached_b_s cap clo use on j z) (g := fun i z => g_reached_a_s cap clo use on i z) (N := 34) (fun _ _ => rfl) (fun i x _ => by rw [rb_eq]; exact stp_sb _ _ _ _) (fun i x c hi h h' => by rw [rb_eq]; exact stp_hi (bj_lt hi) h h') ho hs (g_reached cap clo use start on) rfl
  refine ⟨h1, h2, fun j hj ha hl => ?_, fun y hy hf => h4 y hy (fun j x hj hx => ?_)⟩
  · have e := h3 j hj
    rw [rb_eq] at e
    exact stp_fix (aj_lt hj) (bj_lt hj) e ha hl
  · rw [rb_eq]
    exact stp_in (aj_lt hj) (bj_lt hj) (hf j hj) hx
/-- forward: closed sets as the flow has them -/
theorem Fw_Cl {cap clo use : Nat → Int32} (hr : Rb cap clo 20) (hu : Ub cap clo use) {y : Int32} : Fw cap clo use 1 y ↔ Cl cap clo use (bt y) := by
  constructor
  · intro h k hk
    have e0 := h (2 * k) (by omega)
    have e1 := h (2 * k + 1) (by omega)
    have l0 := left_fe hr (by decide) hu hk
    have l1 := left_se hr (by decide) hu hk
    have hb := hu k hk
    unfold Lj aj bj at e0 e1
    rw [if_pos (show 2 * k % 2 = 0 by omega), if_pos (show 2 * k % 2 = 0 by omega), show 2 * k / 2 = k by omega, if_neg (by decide), ti_lt, ti_0, l0] at e0
    rw [if_neg (show ¬ (2 * k + 1) % 2 = 0 by omega), if_neg (show ¬ (2 * k + 1) % 2 = 0 by omega), show (2 * k + 1) / 2 = k by omega, if_neg (by decide), ti_lt, ti_0, l1] at e1
    constructor
    · intro a b
      by_cases hl : 0 < rI cap clo k - (use k).toInt
      · rw [e0 a hl] at b; cases b
      · omega
    · intro a b
      by_cases hl : 0 < rI cap clo k + (use k).toInt
      · rw [e1 b hl] at a; cases a
      · omega
  · intro h j hj ha hl
    have hk : j / 2 < 17 := by omega
    have l0 := left_fe hr (by decide) hu hk
    have l1 := left_se hr (by decide) hu hk
    have hc := h (j / 2) hk
    unfold Lj at hl
    rw [if_neg (by decide)] at hl
    unfold aj at ha hl
    unfold bj
    by_cases hj2 : j % 2 = 0
    · rw [if_pos hj2] at ha hl ⊢
      rw [ti_lt, ti_0, l0] at hl
      cases hb : bt y (se (j / 2)) with
      | true => rfl
      | false => have := hc.1 ha hb; omega
    · rw [if_neg hj2] at ha hl ⊢
      rw [ti_lt, ti_0, l1] at hl
      cases hb : bt y (fe (j / 2)) with
      | true => rfl
      | false => have := hc.2 hb ha; omega
theorem Bw_Cl {cap clo use : Nat → Int32} (hr : Rb cap clo 20) (hu : Ub cap clo use) {y : Int32} : Fw cap clo use 0 y ↔ Cl cap clo use (fun c => !bt y c) := by
  constructor
  · intro h k hk
    have e0 := h (2 * k) (by omega)
    have e1 := h (2 * k + 1) (by omega)
    have l0 := left_fe hr (by decide) hu hk
    have l1 := left_se hr (by decide) hu hk
    have hb := hu k hk
    unfold Lj aj bj at e0 e1
    rw [if_pos (show 2 * k % 2 = 0 by omega), if_pos (show 2 * k % 2 = 0 by omega), show 2 * k / 2 = k by omega, if_pos rfl, ti_lt, ti_0, l1] at e0
    rw [if_neg (show ¬ (2 * k + 1) % 2 = 0 by omega), if_neg (show ¬ (2 * k + 1) % 2 = 0 by omega), show (2 * k + 1) / 2 = k by omega, if_pos rfl, ti_lt, ti_0, l0] at e1
    dsimp only
    constructor
    · intro a b
      rw [Bool.not_eq_true'] at a
      rw [Bool.not_eq_false'] at b
      by_cases hl : 0 < rI cap clo k - (use k).toInt
      · rw [e1 b hl] at a; cases a
      · omega
    · intro a b
      rw [Bool.not_eq_false'] at a
      rw [Bool.not_eq_true'] at b
      by_cases hl : 0 < rI cap clo k + (use k).toInt
      · rw [e0 a hl] at b; cases b
      · omega
  · intro h j hj ha hl
    have hk : j / 2 < 17 := by omega
    have l0 := left_fe hr (by decide) hu hk
    have l1 := left_se hr (by decide) hu hk
    have hc := h (j / 2) hk
    dsimp only at hc
    unfold Lj at hl
    rw [if_pos rfl] at hl
    unfold aj at ha
    unfold bj at hl ⊢
    by_cases hj2 : j % 2 = 0
    · rw [if_pos hj2] at ha hl ⊢
      rw [ti_lt, ti_0, l1] at hl
      cases hb : bt y (se (j / 2)) with
      | true => rfl
      | false => have := hc.2 (by rw [ha]; rfl) (by rw [hb]; rfl); omega
    · rw [if_neg hj2] at ha hl ⊢
      rw [ti_lt, ti_0, l0] at hl
      cases hb : bt y (fe (j / 2)) with
      | true => rfl
      | false => have := hc.1 (by rw [hb]; rfl) (by rw [ha]; rfl); omega
end
section
set_option maxRecDepth 100000
/-! the first and the last least cut -/
theorem Rb_mono {cap clo : Nat → Int32} (h : Rb cap clo 20) : Rb cap clo 120 := fun k hk => ⟨(h k hk).1, Int.le_trans (h k hk).2 (by decide)⟩
theorem Cl_congr {cap clo use : Nat → Int32} {S T : Nat → Bool} (e : ∀ c, c < 12 → T c = S c) (h : Cl cap clo use S) : Cl cap clo use T := fun k hk => by
  rw [e _ (fe_lt hk), e _ (se_lt hk)]; exact h k hk
theorem b_2047 : ∀ c, c < 32 → bt 2047 c = decide (c < 11) := by decide +kernel
theorem b_4095 : ∀ c, c < 32 → bt 4095 c = decide (c < 12) := by decide +kernel
theorem mfirst_bits {siz shu one two : Nat → Int32} (ho : OTw one two) (hr : Rb siz shu 120) : ∀ c, c < 32 → (bt (m_first siz shu one two) c = true ↔ (c < 11 ∧ ∀ i, i < 1024 → wi (rI siz shu) i = (m_least siz shu one two 0 1).toInt → bt (nI (2 * i + 1)) c = true)) := by
  refine lpF_inv (fun i z => m_first_a_s siz shu one two (m_least siz shu one two 0 1) i z) (fun n z => ∀ c, c < 32 → (bt z c = true ↔ (c < 11 ∧ ∀ i, i < n → wi (rI siz shu) i = (m_least siz shu one two 0 1).toInt → bt (nI (2 * i + 1)) c = true))) 1024 (fun n z hn h c hc => ?_) 1024 0 2047 rfl (fun c hc => ?_)
  · have hw : (m_weigh siz shu one two (nI (2 * n + 1))).toInt = wi (rI siz shu) n := weigh_spec ho hr _
    show bt (m_first_a_s siz shu one two (m_least siz shu one two 0 1) n z) c = true ↔ _
    unfold m_first_a_s
    have hz := h c hc
    by_cases h1 : m_weigh siz shu one two (nI (2 * n + 1)) = m_least siz shu one two 0 1
    · rw [if_pos h1, b_and, Bool.and_eq_true, hz]
      rw [h1] at hw
      constructor
      · rintro ⟨⟨a, b⟩, d⟩
        refine ⟨a, fun i hi he => ?_⟩
        rcases Nat.lt_or_ge i n with h3 | h3
        · exact b i h3 he
        · rw [show i = n by omega]; exact d
      · rintro ⟨a, b⟩
        exact ⟨⟨a, fun i hi he => b i (by omega) he⟩, b n (by omega) hw.symm⟩
    · rw [if_neg h1, hz]
      constructor
      · rintro ⟨a, b⟩
        refine ⟨a, fun i hi he => ?_⟩
        rcases Nat.lt_or_ge i n with h3 | h3
        · exact b i h3 he
        · rw [show i = n by omega] at he
          exact absurd (ti_inj (hw.trans he)) h1
      · rintro ⟨a, b⟩
        exact ⟨a, fun i hi he => b i (by omega) he⟩
  · rw [b_2047 c hc, decide_eq_true_eq]
    exact ⟨fun a => ⟨a, fun i hi => absurd hi (Nat.not_lt_zero i)⟩, fun a => a.1⟩
theorem mlast_bits {siz shu one two : Nat → Int32} (ho : OTw one two) (hr : Rb siz shu 120) : ∀ c, c < 32 → (bt (m_lastCut siz shu one two) c = true ↔ (c = 0 ∨ ∃ i, i < 1024 ∧ wi (rI siz shu) i = (m_least siz shu one two 0 1).toInt ∧ bt (nI (2 * i + 1)) c = true)) := by
  refine lpF_inv (fun i z => m_lastCut_a_s siz shu one two (m_least siz shu one two 0 1) i z) (fun n z => ∀ c, c < 32 → (bt z c = true ↔ (c = 0 ∨ ∃ i, i < n ∧ wi (rI siz shu) i = (m_least siz shu one two 0 1).toInt ∧ bt (nI (2 * i + 1)) c = true))) 1024 (fun n z hn h c hc => ?_) 1024 0 1 rfl (fun c hc => ?_)
  · have hw : (m_weigh siz shu one two (nI (2 * n + 1))).toInt = wi (rI siz shu) n := weigh_spec ho hr _
    show bt (m_lastCut_a_s siz shu one two (m_least siz shu one two 0 1) n z) c = true ↔ _
    unfold m_lastCut_a_s
    have hz := h c hc
    by_cases h1 : m_weigh siz shu one two (nI (2 * n + 1)) = m_least siz shu one two 0 1
    · rw [if_pos h1, b_or, Bool.or_eq_true, hz]
      rw [h1] at hw
      constructor
      · rintro ((a | ⟨i, hi, he, hb⟩) | d)
        · exact Or.inl a
        · exact Or.inr ⟨i, by omega, he, hb⟩
        · exact Or.inr ⟨n, by omega, hw.symm, d⟩
      · rintro (a | ⟨i, hi, he, hb⟩)
        · exact Or.inl (Or.inl a)
        · rcases Nat.lt_or_ge i n with h3 | h3
          · exact Or.inl (Or.inr ⟨i, h3, he, hb⟩)
          · rw [show i = n by omega] at hb
            exact Or.inr hb
    · rw [if_neg h1, hz]
      constructor
      · rintro (a | ⟨i, hi, he, hb⟩)
        · exact Or.inl a
        · exact Or.inr ⟨i, by omega, he, hb⟩
      · rintro (a | ⟨i, hi, he, hb⟩)
        · exact Or.inl a
        · rcases Nat.lt_or_ge i n with h3 | h3
          · exact Or.inr ⟨i, h3, he, hb⟩
          · rw [show i = n by omega] at he
            exact absurd (ti_inj (hw.trans he)) h1
  · rw [b_1, decide_eq_true_eq]
    constructor
    · intro a; exact Or.inl a
    · rintro (a | ⟨i, hi, -⟩)
      · exact a
      · exact absurd hi (Nat.not_lt_zero i)
/-- least cuts are the closed sets of a greatest flow -/
theorem fill_cuts {cap clo one two : Nat → Int32} (ho : OTw one two) (hr : Rb cap clo 20) (use par que : Nat → Int32) : Ub cap clo (g_fill cap clo use par que 1 2048).2.1 ∧ (∀ S, Vd 1 2048 S → (wt (rI cap clo) S = (m_least cap clo one two 0 1).toInt ↔ Cl cap clo (g_fill cap clo use par que 1 2048).2.1 S)) ∧ ∃ i, i < 1024 ∧ wi (rI cap clo) i = (m_least cap clo one two 0 1).toInt ∧ Cl cap clo (g_fill cap clo use par que 1 2048).2.1 (bt (nI (2 * i + 1))) := by
  obtain ⟨hu, hf, hc⟩ := fill_spec use par que hr Vd_1s
  have hw := Mn_uniq (fill_least use par que hr Vd_1s) (least_01 ho (Rb_mono hr))
  rw [hw] at hf
  have key : ∀ S, Vd 1 2048 S → (wt (rI cap clo) S = (m_least cap clo one two 0 1).toInt ↔ Cl cap clo (g_fill cap clo use par que 1 2048).2.1 S) := fun S hS => ⟨fun e => wt_Cl hu ((hf S hS).trans e.symm), fun h => (Cl_wt h).symm.trans (hf S hS)⟩
  obtain ⟨sn, h1, h2⟩ := ClosedS_Cl hr hu Vd_1s hc
  obtain ⟨i, hi, e⟩ := enc (Vd_1.mp h1).1 (Vd_1.mp h1).2
  have h3 := Cl_congr e h2
  exact ⟨hu, key, i, hi, (key _ (Vd_cut hi)).mpr h3, h3⟩
theorem first_eq {cap clo one two : Nat → Int32} (ho : OTw one two) (hr : Rb cap clo 20) (use par que : Nat → Int32) : (g_firstCut cap clo use par que).1 = m_first cap clo one two := by
  obtain ⟨hu, key, i0, hi0, hw0, hc0⟩ := fill_cuts ho hr use par que
  show g_reached cap clo (g_fill cap clo use par que 1 2048).2.1 1 1 = _
  generalize (g_fill cap clo use par que 1 2048).2.1 = us at hu key hc0 ⊢
  obtain ⟨r1, r2, r3, r4⟩ := reached_spec cap clo us 1 (start := 1) (o := 0) (by decide) (by decide)
  have hsb : ∀ i, Cl cap clo us (bt (nI (2 * i + 1))) → sb (g_reached cap clo us 1 1) (nI (2 * i + 1)) := fun i h => r4 _ (fun c _ hb => by
    rw [b_1] at hb
    rw [of_decide_eq_true hb]; exact cut_0 i) ((Fw_Cl hr hu).mpr h)
  have hR0 : bt (g_reached cap clo us 1 1) 0 = true := r1 0 (by decide) (by decide)
  have hR11 : bt (g_reached cap clo us 1 1) 11 = false := by
    cases hb : bt (g_reached cap clo us 1 1) 11 with
    | false => rfl
    | true =>
      have := hsb i0 hc0 11 (by decide) hb
      rw [cut_hi hi0 (by decide) (by decide)] at this
      cases this
  refine b_ext (fun c hc => Bool.eq_iff_iff.mpr ?_)
  rw [mfirst_bits ho (Rb_mono hr) c hc]
  constructor
  · intro hb
    refine ⟨?_, fun i hi he => hsb i ((key _ (Vd_cut hi)).mp he) c hc hb⟩
    rcases Nat.lt_or_ge c 11 with h | h
    · exact h
    · have := hsb i0 hc0 c hc hb
      rw [cut_hi hi0 h hc] at this
      cases this
  · rintro ⟨h11, hall⟩
    obtain ⟨i, hi, e⟩ := enc (S := bt (g_reached cap clo us 1 1)) hR0 hR11
    have h5 := hall i hi ((key _ (Vd_cut hi)).mpr (Cl_congr e ((Fw_Cl hr hu).mp r3)))
    rw [e c (by omega)] at h5
    exact h5
theorem last_eq {cap clo one two : Nat → Int32} (ho : OTw one two) (hr : Rb cap clo 20) (use par que : Nat → Int32) : (g_lastCut cap clo use par que).1 = m_lastCut cap clo one two := by
  obtain ⟨hu, key, i0, hi0, hw0, hc0⟩ := fill_cuts ho hr use par que
  show 4095 &&& ((g_reached cap clo (g_fill cap clo use par que 1 2048).2.1 2048 0) ^^^ (-1)) = _
  generalize (g_fill cap clo use par que 1 2048).2.1 = us at hu key hc0 ⊢
  obtain ⟨r1, r2, r3, r4⟩ := reached_spec cap clo us 0 (start := 2048) (o := 11) (by decide) (by decide)
  have hneg : ∀ (x : Int32) c, c < 32 → bt (x ^^^ (-1)) c = !bt x c := fun x c hc => by
    rw [b_xor, b_m1 c hc]
    cases bt x c <;> rfl
  -- a least cut and what reaches the sink are apart
  have hsb : ∀ i, i < 1024 → Cl cap clo us (bt (nI (2 * i + 1))) → ∀ c, c < 32 → bt (g_reached cap clo us 2048 0) c = true → bt (nI (2 * i + 1)) c = false := fun i hi h c hc hb => by
    have h5 := r4 (nI (2 * i + 1) ^^^ (-1)) (fun c hc hb => by
      rw [b_2048 c hc] at hb
      rw [hneg _ c hc, of_decide_eq_true hb, cut_hi hi (by decide) (by decide)]; rfl) ((Bw_Cl hr hu).mpr (Cl_congr (fun c hc => by
      rw [hneg _ c (by omega), Bool.not_not]) h)) c hc hb
    rw [hneg _ c hc, Bool.not_eq_true'] at h5
    exact h5
  have hR0 : bt (g_reached cap clo us 2048 0) 0 = false := by
    cases hb : bt (g_reached cap clo us 2048 0) 0 with
    | false => rfl
    | true =>
      have := hsb i0 hi0 hc0 0 (by decide) hb
      rw [cut_0] at this
      cases this
  have hR11 : bt (g_reached cap clo us 2048 0) 11 = true := r1 11 (by decide) (by decide)
  refine b_ext (fun c hc => Bool.eq_iff_iff.mpr ?_)
  rw [mlast_bits ho (Rb_mono hr) c hc, b_and, b_4095 c hc, hneg _ c hc, Bool.and_eq_true, decide_eq_true_eq, Bool.not_eq_true']
  constructor
  · rintro ⟨h12, hb⟩
    obtain ⟨i, hi, e⟩ := enc (S := fun c => !bt (g_reached cap clo us 2048 0) c) (by rw [hR0]; rfl) (by rw [hR11]; rfl)
    refine Or.inr ⟨i, hi, (key _ (Vd_cut hi)).mpr (Cl_congr e ((Bw_Cl hr hu).mp r3)), ?_⟩
    rw [e c h12, hb]; rfl
  · rintro (rfl | ⟨i, hi, he, hb⟩)
    · exact ⟨by decide, hR0⟩
    · have h12 : c < 12 := by
        rcases Nat.lt_or_ge c 12 with h | h
        · exact h
        · rw [cut_hi hi (by omega) hc] at hb; cases hb
      refine ⟨h12, ?_⟩
      cases hr0 : bt (g_reached cap clo us 2048 0) c with
      | false => rfl
      | true =>
        rw [hsb i hi ((key _ (Vd_cut hi)).mp he) c hc hr0] at hb
        cases hb
/-! ways over open streets -/
def wst (x : Int32) (a b : Nat) (L : Int32) : Int32 := if L ≤ 0 then x else (if (x &&& ((1 <<< (nI a &&& 31)) ||| (1 <<< (nI b &&& 31)))) = 0 then x else x ||| ((1 <<< (nI a &&& 31)) ||| (1 <<< (nI b &&& 31))))
theorem bt_two {a b c : Nat} (ha : a < 12) (hb : b < 12) (hc : c < 32) : bt ((1 <<< (nI a &&& 31)) ||| (1 <<< (nI b &&& 31))) c = (decide (c = a) || decide (c = b)) := by rw [b_or, bt_one (by omega) hc, bt_one (by omega) hc]
theorem and_two {x : Int32} {a b : Nat} (ha : a < 12) (hb : b < 12) : (x &&& ((1 <<< (nI a &&& 31)) ||| (1 <<< (nI b &&& 31)))) = 0 ↔ bt x a = false ∧ bt x b = false := by
  constructor
  · intro h
    have h1 : ∀ c, c < 32 → (bt x c && (decide (c = a) || decide (c = b))) = false := fun c hc => by
      rw [← bt_two ha hb hc, ← b_and, h, b_0]
    have ea := h1 a (by omega)
    have eb := h1 b (by omega)
    rw [decide_eq_true (rfl : a = a), Bool.true_or, Bool.and_true] at ea
    rw [decide_eq_true (rfl : b = b), Bool.or_true, Bool.and_true] at eb
    exact ⟨ea, eb⟩
  · rintro ⟨h1, h2⟩
    refine b_ext (fun c hc => ?_)
    rw [b_and, bt_two ha hb hc, b_0]
    by_cases e1 : c = a
    · subst e1; rw [h1, Bool.false_and]
    · by_cases e2 : c = b
      · subst e2; rw [h2, Bool.false_and]
      · rw [decide_eq_false e1, decide_eq_false e2]; cases bt x c <;> rfl
theorem wst_sb (x : Int32) (a b : Nat) (L : Int32) : sb x (wst x a b L) := by
  unfold wst
  split
  · exact sb_rf x
  · split
    · exact sb_rf x
    · intro c hc hb; rw [b_or, hb, Bool.true_or]
theorem wst_hi {x : Int32} {a b : Nat} {L : Int32} {c : Nat} (ha : a < 12) (hb : b < 12) (h : 12 ≤ c) (hc : c < 32) : bt (wst x a b L) c = bt x c := by
  unfold wst
  split
  · rfl
  · split
    · rfl
    · rw [b_or, bt_two ha hb hc, decide_eq_false (by omega), decide_eq_false (by omega)]; cases bt x c <;> rfl
theorem wst_in {x y : Int32} {a b : Nat} {L : Int32} (ha : a < 12) (hb : b < 12) (hy : 0 < L → bt y a = bt y b) (h : sb x y) : sb (wst x a b L) y := by
  unfold wst
  split
  · exact h
  · rename_i h1
    have e := hy (Int32.not_le.mp h1)
    split
    · exact h
    · rename_i h2
      have hab : bt y a = true ∧ bt y b = true := by
        rw [and_two ha hb] at h2
        cases hxa : bt x a with
        | true => have h3 := h a (by omega) hxa; exact ⟨h3, e ▸ h3⟩
        | false =>
          cases hxb : bt x b with
          | true => have h3 := h b (by omega) hxb; exact ⟨e.trans h3, h3⟩
          | false => exact absurd ⟨hxa, hxb⟩ h2
      intro c hc hbc
      rw [b_or, bt_two ha hb hc] at hbc
      rcases Bool.or_eq_true_iff.mp hbc with h3 | h3
      · exact h c hc h3
      · rcases Bool.or_eq_true_iff.mp h3 with h4 | h4
        · rw [of_decide_eq_true h4]; exact hab.1
        · rw [of_decide_eq_true h4]; exact hab.2
theorem wst_fix {x : Int32} {a b : Nat} {L : Int32} (ha : a < 12) (hb : b < 12) (h : wst x a b L = x) (h2 : 0 < L) : bt x a = bt x b := by
  unfold wst at h
  rw [if_neg (Int32.not_le.mpr h2)] at h
  by_cases h1 : (x &&& ((1 <<< (nI a &&& 31)) ||| (1 <<< (nI b &&& 31)))) = 0
  · rw [((and_two ha hb).mp h1).1, ((and_two ha hb).mp h1).2]
  · rw [if_neg h1] at h
    have e : ∀ c, c < 32 → (decide (c = a) || decide (c = b)) = true → bt x c = true := fun c hc hd => by
      rw [← h, b_or x, bt_two ha hb hc, hd, Bool.or_true]
    rw [e a (by omega) (by rw [decide_eq_true (rfl : a = a), Bool.true_or]), e b (by omega) (by rw [decide_eq_true (rfl : b = b), Bool.or_true])]
theorem way_0 (use : Nat → Int32) : ∀ k, k < 17 → g_way_a_l use k = 0 := fill_0 use
theorem way_reach {cap clo one two : Nat → Int32} (ho : OTw one two) (hr : Rb cap clo 20) (use : Nat → Int32) {a : Nat} (ha : a < 12) : g_reached cap clo (g_way_a_l use) (1 <<< (nI a &&& 31)) 1 = m_way_a_l cap clo one two (1 <<< (nI a &&& 31)) := by
  have hz := way_0 use
  generalize g_way_a_l use = u0 at hz ⊢
  have hu : Ub cap clo u0 := fun k hk => by
    rw [hz k hk, ti_0]
    have := hr k hk
    omega
  have hs : bt (1 <<< (nI a &&& 31)) a = true := by rw [bt_one (by omega) (by omega), decide_eq_true rfl]
  obtain ⟨r1, r2, r3, r4⟩ := reached_spec cap clo u0 1 ha hs
  have me : ∀ j x, j < 17 → m_way_b_s cap clo one two j x = wst x (fe j) (se j) (m_open cap clo j) := fun j x hj => by
    unfold m_way_b_s wst
    rw [(ho j hj).1, (ho j hj).2]
  obtain ⟨s1, s2, s3, s4⟩ := closure (f := fun j z => m_way_b_s cap clo one two j z) (g := fun i z => m_way_a_s cap clo one two i z) (N := 17) (fun _ _ => rfl) (fun i x hi => by rw [me i x hi]; exact wst_sb _ _ _ _) (fun i x c hi h h' => by rw [me i x hi]; exact wst_hi (fe_lt hi) (se_lt hi) h h') ha hs (m_way_a_l cap clo one two (1 <<< (nI a &&& 31))) rfl
  have hop : ∀ k, 0 < m_open cap clo k ↔ 0 < rI cap clo k := fun k => by rw [ti_lt, ti_0]; rfl
  have hCl : ∀ S : Nat → Bool, Cl cap clo u0 S ↔ ∀ k, k < 17 → 0 < rI cap clo k → S (fe k) = S (se k) := fun S => by
    constructor
    · intro h k hk h0
      have h1 := h k hk
      rw [hz k hk, ti_0] at h1
      cases hf : S (fe k) <;> cases hs : S (se k)
      · rfl
      · have := h1.2 hf hs; omega
      · have := h1.1 hf hs; omega
      · rfl
    · intro h k hk
      have h1 := h k hk
      have h2 := hr k hk
      rw [hz k hk, ti_0]
      by_cases h0 : 0 < rI cap clo k
      · have e := h1 h0
        exact ⟨fun a b => (by rw [e, b] at a; cases a), fun a b => (by rw [e, b] at a; cases a)⟩
      · exact ⟨fun _ _ => by omega, fun _ _ => by omega⟩
  refine sb_anti ?_ ?_
  · refine r4 _ s1 ((Fw_Cl hr hu).mpr ((hCl _).mpr (fun k hk h0 => ?_)))
    have e := s3 k hk
    rw [me k _ hk] at e
    exact wst_fix (fe_lt hk) (se_lt hk) e ((hop k).mpr h0)
  · refine s4 _ r1 (fun j x hj hx => ?_)
    rw [me j x hj]
    exact wst_in (fe_lt hj) (se_lt hj) (fun h0 => (hCl _).mp ((Fw_Cl hr hu).mp r3) j hj ((hop j).mp h0)) hx
end
section
set_option maxRecDepth 100000
/-! each call of the class answers as the model's -/
theorem st_bad (x : Int32) : (g_isStreet x = 0 ∧ ¬ m_badStreet x = 0) ∨ (¬ g_isStreet x = 0 ∧ m_badStreet x = 0) := by
  unfold g_isStreet m_badStreet
  have e17 : (17 : Int32).toInt = 17 := by decide
  have e16 : (16 : Int32).toInt = 16 := by decide
  by_cases h1 : x < 0
  · rw [if_pos h1, if_pos h1]; exact Or.inl ⟨rfl, by decide⟩
  · rw [if_neg h1, if_neg h1]
    by_cases h2 : x ≤ 16
    · rw [if_pos h2, if_neg (by rw [ti_le] at h2 ⊢; omega)]; exact Or.inr ⟨by decide, rfl⟩
    · rw [if_neg h2, if_pos (by rw [ti_le] at h2 ⊢; omega)]; exact Or.inl ⟨rfl, by decide⟩
theorem cr_bad (x : Int32) : (g_isCrossing x = 0 ∧ ¬ m_bad x = 0) ∨ (¬ g_isCrossing x = 0 ∧ m_bad x = 0) := by
  unfold g_isCrossing m_bad
  have e12 : (12 : Int32).toInt = 12 := by decide
  have e11 : (11 : Int32).toInt = 11 := by decide
  by_cases h1 : x < 0
  · rw [if_pos h1, if_pos h1]; exact Or.inl ⟨rfl, by decide⟩
  · rw [if_neg h1, if_neg h1]
    by_cases h2 : x ≤ 11
    · rw [if_pos h2, if_neg (by rw [ti_le] at h2 ⊢; omega)]; exact Or.inr ⟨by decide, rfl⟩
    · rw [if_neg h2, if_pos (by rw [ti_le] at h2 ⊢; omega)]; exact Or.inl ⟨rfl, by decide⟩
/-- what holds between the calls -/
def Cb (cap : Nat → Int32) (c : Int) : Prop := ∀ k, k < 17 → 0 ≤ (cap k).toInt ∧ (cap k).toInt ≤ c
def Zb (clo : Nat → Int32) : Prop := ∀ k, k < 17 → clo k = 0 ∨ clo k = 1
theorem Cb_Rb {cap : Nat → Int32} {c : Int} (hc : 0 ≤ c) (h : Cb cap c) (clo : Nat → Int32) : Rb cap clo c := fun k hk => by
  unfold rI g_room
  split
  · exact h k hk
  · rw [ti_0]; exact ⟨Int.le_refl _, hc⟩
theorem Cb_upd {cap : Nat → Int32} {c : Int} {p : Nat} {x : Int32} (h : Cb cap c) (h1 : 0 ≤ x.toInt) (h2 : x.toInt ≤ c) : Cb (upd cap p x) c := fun k hk => by
  by_cases e : k = p
  · subst e; rw [upd_s]; exact ⟨h1, h2⟩
  · rw [upd_n _ _ e]; exact h k hk
theorem Zb_upd {clo : Nat → Int32} {p : Nat} {x : Int32} (h : Zb clo) (hx : x = 0 ∨ x = 1) : Zb (upd clo p x) := fun k hk => by
  by_cases e : k = p
  · subst e; rw [upd_s]; exact hx
  · rw [upd_n _ _ e]; exact h k hk
theorem Zb_nar {clo : Nat → Int32} (h : Zb clo) : ∀ k, k < 17 → vp_nar .boolean (clo k) = clo k := fun k hk => by
  rcases h k hk with e | e <;> rw [e] <;> decide
/-! set, sow, close, capacity -/
theorem set_eq (cap : Nat → Int32) (s v : Int32) : g_set cap s v = m_set cap s v := by
  unfold g_set m_set
  rcases st_bad s with ⟨h1, h2⟩ | ⟨h1, h2⟩
  · rw [if_pos h1, if_neg h2]
  · rw [if_neg h1, if_pos h2]
theorem set_Cb {cap : Nat → Int32} (h : Cb cap 20) (s v : Int32) : Cb (g_set cap s v).2 20 := by
  have e20 : (20 : Int32).toInt = 20 := by decide
  unfold g_set
  split
  · exact h
  · split
    · exact h
    · rename_i h1
      split
      · rename_i h2
        rw [ti_lt, ti_0] at h1
        rw [ti_le, e20] at h2
        exact Cb_upd h (by omega) h2
      · exact h
theorem sow_eq (cap : Nat → Int32) (s b : Int32) : g_sow cap s b = m_sow cap s b := rfl
theorem sow_val {s b i : Nat} (hs : s ≤ 20) (hb : b ≤ 20) (hi : i < 17) : ((nI s + 7 * nI i) + ((nI i * nI i) * nI b)) - ((nI s + 7 * nI i) + ((nI i * nI i) * nI b)) / 21 * 21 = nI ((s + 7 * i + i * i * b) % 21) := by
  have e7 : (7 : Int32) = nI 7 := rfl
  have e21 : (21 : Int32) = nI 21 := rfl
  rw [e7, e21, pk_mul, pk_mul, pk_mul, nI_add, nI_add]
  refine pk_rem ?_ (by decide) (by decide)
  have h1 : i * i ≤ 16 * 16 := Nat.mul_le_mul (by omega) (by omega)
  have h2 : i * i * b ≤ 16 * 16 * 20 := Nat.mul_le_mul h1 hb
  omega
theorem sow_Cb {cap : Nat → Int32} (h : Cb cap 20) (s b : Int32) : Cb (g_sow cap s b).2 20 := by
  have e20 : (20 : Int32).toInt = (20 : Nat) := by decide
  unfold g_sow
  split
  · exact h
  · rename_i h1
    split
    · rename_i h2
      split
      · exact h
      · rename_i h3
        split
        · rename_i h4
          obtain ⟨s', hs, rfl⟩ := nI_of2 e20 h1 h2
          obtain ⟨b', hb, rfl⟩ := nI_of2 e20 h3 h4
          refine lpF_inv (fun i z => g_sow_a_s (nI s') (nI b') i z.1 z.2) (fun _ z => Cb z.2 20) 17 (fun i z hi h => ?_) 17 0 (0, cap) rfl h
          show Cb (upd z.2 i _) 20
          rw [sow_val hs hb hi]
          have hlt : (s' + 7 * i + i * i * b') % 21 < 21 := Nat.mod_lt _ (by decide)
          refine Cb_upd h ?_ ?_
          · rw [nI_toInt (by omega)]; omega
          · rw [nI_toInt (by omega)]; omega
        · exact h
    · exact h
theorem close_eq (clo : Nat → Int32) (s f : Int32) : g_close clo s f = m_close clo s f := by
  unfold g_close m_close
  rcases st_bad s with ⟨h1, h2⟩ | ⟨h1, h2⟩
  · rw [if_pos h1, if_neg h2]
  · rw [if_neg h1, if_pos h2]
theorem close_Zb {clo : Nat → Int32} (h : Zb clo) (s f : Int32) : Zb (g_close clo s f).2 := by
  unfold g_close
  split
  · exact h
  · split
    · split
      · exact Zb_upd h (Or.inl rfl)
      · exact Zb_upd h (Or.inr rfl)
    · split
      · exact Zb_upd h (Or.inl rfl)
      · exact Zb_upd h (Or.inr rfl)
theorem capacity_eq (cap : Nat → Int32) (s : Int32) : g_capacity cap s = m_capacity cap s := by
  unfold g_capacity m_capacity
  rcases st_bad s with ⟨h1, h2⟩ | ⟨h1, h2⟩
  · rw [if_pos h1, if_neg h2]
  · rw [if_neg h1, if_pos h2]
/-! between -/
theorem lpE_congr {σ ρ : Type} {f g : Nat → σ → σ ⊕ ρ} {N : Nat} (h : ∀ i s, i < N → f i s = g i s) : ∀ n i s, i + n ≤ N → lpE f n i s = lpE g n i s := by
  intro n
  induction n with
  | zero => intro i s _; rw [lpE_0, lpE_0]
  | succ n ih =>
    intro i s hi
    cases hf : f i s with
    | inl s' => rw [lpE_l f n i s s' hf, lpE_l g n i s s' ((h i s (by omega)).symm.trans hf)]; exact ih (i + 1) s' (by omega)
    | inr r => rw [lpE_r f n i s r hf, lpE_r g n i s r ((h i s (by omega)).symm.trans hf)]
theorem lpF_congr {σ : Type} {f g : Nat → σ → σ} {N : Nat} (h : ∀ i s, i < N → f i s = g i s) : ∀ n i s, i + n ≤ N → lpF f n i s = lpF g n i s := by
  intro n
  induction n with
  | zero => intro i s _; rw [lpF_0, lpF_0]
  | succ n ih =>
    intro i s hi
    rw [lpF_s, lpF_s, h i s (by omega)]
    exact ih (i + 1) _ (by omega)
theorem between_eq {one two : Nat → Int32} (ho : OTw one two) (a b : Int32) : g_between a b = m_between one two a b := by
  have e : g_between_a_l a b = m_between_a_l one two a b := by
    refine lpE_congr (N := 17) (fun i s hi => ?_) 17 0 () (by decide)
    show g_between_a_s a b i = m_between_a_s one two a b i
    unfold g_between_a_s m_between_a_s
    rw [(ho i hi).1, (ho i hi).2]
    (repeat' split) <;> first | rfl | contradiction
  unfold g_between m_between
  rw [e]
  rcases cr_bad a with ⟨h1, h2⟩ | ⟨h1, h2⟩
  · rw [if_pos h1, if_neg h2]
  · rw [if_neg h1, if_pos h2]
    rcases cr_bad b with ⟨h3, h4⟩ | ⟨h3, h4⟩
    · rw [if_pos h3, if_neg h4]
    · rw [if_neg h3, if_pos h4]
      cases m_between_a_l one two a b with
      | inl u => rfl
      | inr r => rfl
/-! weight -/
theorem sides {x : Int32} {a b : Nat} (ha : a < 12) (hb : b < 12) : (((x >>> (nI a &&& 31)) ^^^ (x >>> (nI b &&& 31))) &&& 1) = 1 ↔ ¬ ((x >>> (nI a &&& 31)) &&& 1) = ((x >>> (nI b &&& 31)) &&& 1) := by
  have e : ((x >>> (nI a &&& 31)) ^^^ (x >>> (nI b &&& 31))) &&& 1 = ((x >>> (nI a &&& 31)) &&& 1) ^^^ ((x >>> (nI b &&& 31)) &&& 1) := b_ext (fun c _ => by
    rw [b_and, b_xor, b_xor, b_and, b_and]
    cases bt (x >>> (nI a &&& 31)) c <;> cases bt (x >>> (nI b &&& 31)) c <;> cases bt 1 c <;> rfl)
  rw [e, bI_if x (by omega), bI_if x (by omega)]
  cases bt x a <;> cases bt x b <;> decide
theorem weigh_eq {cap clo one two : Nat → Int32} (ho : OTw one two) (cut : Int32) : g_weight_a_l cap clo cut 0 = m_weigh cap clo one two cut := by
  refine lpF_congr (N := 17) (fun i s hi => ?_) 17 0 0 (by decide)
  unfold g_weight_a_s m_weigh_a_s
  rw [(ho i hi).1, (ho i hi).2]
  by_cases h : ((cut >>> (nI (fe i) &&& 31)) &&& 1) = ((cut >>> (nI (se i) &&& 31)) &&& 1)
  · rw [if_pos h, if_neg (fun e => (sides (fe_lt hi) (se_lt hi)).mp e h)]
    exact Int32.add_zero s
  · rw [if_neg h, if_pos ((sides (fe_lt hi) (se_lt hi)).mpr h)]
    rfl
theorem weight_eq {cap clo one two : Nat → Int32} (ho : OTw one two) (cut : Int32) : g_weight cap clo cut = m_weight cap clo one two cut := by
  have e4 : (4095 : Int32).toInt = (4095 : Nat) := by decide
  have e2 : (2047 : Int32).toInt = 2047 := by decide
  unfold g_weight m_weight
  by_cases h1 : cut < 0
  · rw [if_pos h1, if_pos h1]
  · rw [if_neg h1, if_neg h1]
    by_cases h2 : cut ≤ 4095
    · rw [if_pos h2, if_pos h2]
      by_cases h3 : (cut &&& 1) = 0
      · rw [if_pos h3, if_pos h3]
      · rw [if_neg h3, if_neg h3, weigh_eq ho]
        have key : ((cut >>> ((11 : Int32) &&& 31)) &&& 1) = 1 ↔ ¬ cut ≤ 2047 := by
          obtain ⟨n, hn, rfl⟩ := nI_of2 e4 h1 h2
          have h5 : ((nI n >>> ((11 : Int32) &&& 31)) &&& 1) = 1 ↔ bt (nI n) 11 = true := bI_1 (c := 11) (by decide)
          rw [h5, bt_nI _ _ (by decide), Nat.testBit_eq_decide_div_mod_eq, decide_eq_true_eq, ti_le, e2, nI_toInt (by omega)]
          omega
        by_cases h4 : cut ≤ 2047
        · rw [if_pos h4, if_neg (fun e => key.mp e h4)]
        · rw [if_neg h4, if_pos (key.mpr h4)]
    · rw [if_neg h2, if_neg h2]
/-! flow, cuts -/
theorem flow_eq {cap clo one two : Nat → Int32} (ho : OTw one two) (hr : Rb cap clo 120) (len set : Nat → Int32) : (g_shortest cap clo len set).1 = m_least cap clo one two 0 1 := ti_inj (Mn_uniq (short_least hr len set) (least_01 ho hr))
theorem with_eq {cap clo one two : Nat → Int32} (ho : OTw one two) (hr : Rb cap clo 20) (use par que : Nat → Int32) (k : Int32) : (g_leastWith cap clo use par que k).1 = m_leastWith cap clo one two k := by
  unfold g_leastWith m_leastWith
  rcases cr_bad k with ⟨h1, h2⟩ | ⟨h1, h2⟩
  · rw [if_pos h1, if_neg h2]
  · rw [if_neg h1, if_pos h2]
    by_cases h3 : k = 11
    · rw [if_pos h3, if_pos h3]
    · rw [if_neg h3, if_neg h3]
      obtain ⟨e, hk⟩ := isCrossing_in h1
      generalize k.toNatClampNeg = n at e hk
      subst e
      have h11 : ¬ n = 11 := fun e => h3 (by rw [e]; rfl)
      exact ti_inj (Mn_uniq (fill_least use par que hr (with_src hk h11)) (least_with ho (Rb_mono hr) hk h11))
theorem without_eq {cap clo one two : Nat → Int32} (ho : OTw one two) (hr : Rb cap clo 20) (use par que : Nat → Int32) (k : Int32) : (g_leastWithout cap clo use par que k).1 = m_leastWithout cap clo one two k := by
  unfold g_leastWithout m_leastWithout
  rcases cr_bad k with ⟨h1, h2⟩ | ⟨h1, h2⟩
  · rw [if_pos h1, if_neg h2]
  · rw [if_neg h1, if_pos h2]
    by_cases h3 : k = 0
    · rw [if_pos h3, if_pos h3]
    · rw [if_neg h3, if_neg h3]
      obtain ⟨e, hk⟩ := isCrossing_in h1
      generalize k.toNatClampNeg = n at e hk
      subst e
      have h0 : ¬ n = 0 := fun e => h3 (by rw [e]; rfl)
      exact ti_inj (Mn_uniq (fill_least use par que hr (without_src hk h0)) (least_without ho (Rb_mono hr) hk h0))
/-! loss and gain -/
theorem loss_eq {cap clo one two : Nat → Int32} (ho : OTw one two) (hc : Cb cap 20) (len set : Nat → Int32) (s : Int32) : (g_loss cap clo len set s).1 = (m_loss cap clo one two s).1 ∧ (g_loss cap clo len set s).2.1 = clo ∧ (m_loss cap clo one two s).2 = clo := by
  unfold g_loss m_loss
  rcases st_bad s with ⟨h1, h2⟩ | ⟨h1, h2⟩
  · rw [if_pos h1, if_neg h2]; exact ⟨rfl, rfl, rfl⟩
  · rw [if_neg h1, if_pos h2]
    refine ⟨?_, ?_, ?_⟩
    · show _ - _ = _ - _
      rw [flow_eq ho (Rb_mono (Cb_Rb (by decide) hc clo)), flow_eq ho (Rb_mono (Cb_Rb (by decide) hc _))]
    · show upd (upd clo _ 1) _ (clo _) = clo
      rw [upd_upd, upd_self]
    · show upd (upd clo _ 1) _ (clo _) = clo
      rw [upd_upd, upd_self]
theorem gain_eq {cap clo one two : Nat → Int32} (ho : OTw one two) (hc : Cb cap 20) (len set : Nat → Int32) (s v : Int32) : (g_gain cap clo len set s v).1 = (m_gain cap clo one two s v).1 ∧ (g_gain cap clo len set s v).2.1 = cap ∧ (m_gain cap clo one two s v).2 = cap := by
  have e100 : (100 : Int32).toInt = 100 := by decide
  unfold g_gain m_gain
  rcases st_bad s with ⟨h1, h2⟩ | ⟨h1, h2⟩
  · rw [if_pos h1, if_neg h2]; exact ⟨rfl, rfl, rfl⟩
  · rw [if_neg h1, if_pos h2]
    by_cases h3 : v < 0
    · rw [if_pos h3, if_pos h3]; exact ⟨rfl, rfl, rfl⟩
    · rw [if_neg h3, if_neg h3]
      by_cases h4 : v ≤ 100
      · rw [if_pos h4, if_pos h4]
        obtain ⟨-, hk⟩ := isStreet_in h1
        rw [ti_lt, ti_0] at h3
        rw [ti_le, e100] at h4
        have hck := hc _ hk
        have hadd : (cap s.toNatClampNeg + v).toInt = (cap s.toNatClampNeg).toInt + v.toInt := ti_add (by omega) (by omega)
        have hc2 : Cb (upd cap s.toNatClampNeg (cap s.toNatClampNeg + v)) 120 := Cb_upd (fun k hk => ⟨(hc k hk).1, Int.le_trans (hc k hk).2 (by decide)⟩) (by omega) (by omega)
        have back : upd (upd cap s.toNatClampNeg (cap s.toNatClampNeg + v)) s.toNatClampNeg (upd cap s.toNatClampNeg (cap s.toNatClampNeg + v) s.toNatClampNeg - v) = cap := by
          rw [upd_s, upd_upd, Int32.add_sub_cancel, upd_self]
        refine ⟨?_, back, back⟩
        show _ - _ = _ - _
        rw [flow_eq ho (Rb_mono (Cb_Rb (by decide) hc clo)), flow_eq ho (Cb_Rb (by decide) hc2 clo)]
      · rw [if_neg h4, if_neg h4]; exact ⟨rfl, rfl, rfl⟩
/-! ways, streets of a cut -/
theorem way_eq {cap clo one two : Nat → Int32} (ho : OTw one two) (hr : Rb cap clo 20) (use : Nat → Int32) (a b : Int32) : (g_way cap clo use a b).1 = m_way cap clo one two a b := by
  unfold g_way m_way
  rcases cr_bad a with ⟨h1, h2⟩ | ⟨h1, h2⟩
  · rw [if_pos h1, if_neg h2]
  · rw [if_neg h1, if_pos h2]
    rcases cr_bad b with ⟨h3, h4⟩ | ⟨h3, h4⟩
    · rw [if_pos h3, if_neg h4]
    · rw [if_neg h3, if_pos h4]
      obtain ⟨e, hk⟩ := isCrossing_in h1
      generalize a.toNatClampNeg = n at e hk
      subst e
      dsimp only
      rw [way_reach ho hr use hk]
theorem cutStreets_eq {cap clo one two : Nat → Int32} (ho : OTw one two) (hr : Rb cap clo 20) (use par que : Nat → Int32) : (g_cutStreets cap clo use par que).1 = m_cutStreets cap clo one two := by
  show g_cutStreets_a_l cap clo ((g_firstCut cap clo use par que).1) 0 = m_cutStreets_a_l cap clo one two (m_first cap clo one two) 0
  rw [first_eq ho hr]
  generalize m_first cap clo one two = cut
  refine lpF_congr (N := 17) (fun i s hi => ?_) 17 0 0 (by decide)
  unfold g_cutStreets_a_s m_cutStreets_a_s
  rw [(ho i hi).1, (ho i hi).2]
  by_cases h : ((cut >>> (nI (fe i) &&& 31)) &&& 1) = ((cut >>> (nI (se i) &&& 31)) &&& 1)
  · rw [if_pos h, if_neg (fun e => (sides (fe_lt hi) (se_lt hi)).mp e h)]
    exact Int32.add_zero s
  · rw [if_neg h, if_pos ((sides (fe_lt hi) (se_lt hi)).mpr h)]
    show (if m_open cap clo i ≤ 0 then s + 0 else s + 1) = _
    rw [Int32.add_zero]
end
section
set_option maxRecDepth 100000
/-! constructors: new arrays, fields put, the end -/
section JN
variable {p : Program} {l : Launch} {e : Env} {R : Room} {s : State} {m : MethodId} {args : Array Value} {below : List Frame} {meth : Method} {c : Code} {cc : ByteArray} {nL : Nat} {own : String} {ret : Option FieldType} {D : va_G} {tys : List (ClassId × FieldType)} {A : Nat → Prop} {cells slots : Nat} {Q : State → Prop} {ws : va_W} {pc : Nat} {lv : List (Nat × Value)} {st : List Value}
theorem J.go {H : Heap} {locs : List Loc} {ls : Array Slot} (K : J p l e R s m args below meth c D A nL cells slots Q ws pc lv st) (hP : va_P D vwCl ws H) (hD : va_D A ws) (hS : va_S A s.heap H locs) (hl : lv_has ls nL lv) : W p l e R s m args below meth c H locs cells slots Q (F0 m pc ls st) := K H locs ls hP hD hS hl
theorem j_widen {k n : Nat} (h1 : cells ≤ k) (h2 : slots ≤ n) (K : J p l e R s m args below meth c D A nL k n Q ws pc lv st) : J p l e R s m args below meth c D A nL cells slots Q ws pc lv st := fun H locs ls hP hD hS hl => W.widen h1 h2 (K H locs ls hP hD hS hl)
theorem va_K_same {cl : List vw_C} {U : State} (h : va_K D cl tys U) {i j : Nat} {a b : ClassId} {ty : FieldType} (ht : ty = .int ∨ ty = .boolean) (hi : tys[i]? = some (a, ty)) (hj : tys[j]? = some (b, ty)) : a = b := by
  have h1 := (h.2 i _ hi).2
  have h2 := (h.2 j _ hj).2
  rcases ht with rfl | rfl
  · exact Option.some.inj (Eq.trans (Eq.symm (show U.vm.findClass _ = some a from h1)) h2)
  · exact Option.some.inj (Eq.trans (Eq.symm (show U.vm.findClass _ = some a from h1)) h2)
theorem Cx.sub {tys' : List (ClassId × FieldType)} (C : Cx p s m args meth c cc nL own ret D tys A) (is : List Nat) (h : is.filterMap (fun i => tys[i]?) = tys') : Cx p s m args meth c cc nL own ret D tys' A := ⟨C.1, C.2.1, C.2.2.1, C.2.2.2.1.sub is h, C.2.2.2.2⟩
theorem j_newa (C : Cx p s m args meth c cc nL own ret D tys A) {atype : ArrayType} {ty : FieldType} (hty : newarray.typeOf atype = ty) (hw : Cond.arrayClass ty ∈ lw_all) (hz : defaultValue ty = .int 0) {n : Int32} (N : Nat) {pc' : Nat} (hn : ¬ n < 0) (hN : n.toNatClampNeg = N) (hb : N * componentBytes ty ≤ 536870912) (hc : cells + 1 ≤ R.cells) (hs : slots + N ≤ R.slots) (hd : decode cc pc = .ok (.newarray atype, 2)) (hp : pc + 2 = pc') (K : ∀ (q : Nat) (cA : ClassId), Cx p s m args meth c cc nL own ret D (tys ++ [(cA, ty)]) A → J p l e R s m args below meth c D A nL (cells + 1) (slots + N) Q (ws ++ [(q, .inl (cA, N, .inl (fun _ => 0)))]) pc' lv (.ref q :: st)) : J p l e R s m args below meth c D A nL cells slots Q ws pc lv (.int n :: st) := by
  subst hp
  intro H locs ls hP hD hS h
  refine va_newa C.1.1 C.1.2.1 (by rw [hty]; exact C.1.2.2.2.2 _ hw) hty C.2.2.2.1 hP hD hS C.2.2.2.2 (a0 := (N, .inl (fun _ => 0))) (fun cA => by rw [hz]; rfl) hn hN hb hc hs hd (fun q cA H1 hK1 hP1 hD1 hS1 => ?_)
  exact K q cA ⟨C.1, C.2.1, C.2.2.1, hK1, C.2.2.2.2⟩ H1 locs ls hP1 hD1 hS1 h
theorem j_putF0 (C : Cx p s m args meth c cc nL RX0 ret D tys A) (hin : meth.name = "<init>") (k : Nat) (ws' : va_W) {a x : Nat} {fs : List Value} {ty : FieldType} {index pc' : Nat} (he : ws[0]? = some (a, .inr (0, fs))) (hk : k < 7) (hL : Cond.fieldLink RX0 index RX0 (TX0 k).2.1 (TX0 k).2.2.1 ∈ lw_all) (hc : (TX0 k).1 = RX0) (hfin : (TX0 k).2.2.2 = true) (hty : parseFieldDescriptor (TX0 k).2.2.1 = some ty) (hn : narrow ty (.ref x) = .ref x) (hfit : fits ty (.ref x) = true) (hlen : k < fs.length) (hw : ws.set 0 (a, .inr (0, fs.set k (.ref x))) = ws') (hd : decode cc pc = .ok (.putfield index, 3)) (hp : pc + 3 = pc') (K : J p l e R s m args below meth c D A nL cells slots Q ws' pc' lv st) : J p l e R s m args below meth c D A nL cells slots Q ws pc lv (.ref x :: .ref a :: st) := by
  subst hp; subst hw
  intro H locs ls hP hD hS h
  exact va_putF (D := D) (ci := 0) (v := .ref x) (ty := ty) (C := RX0) (T := TX0) (N := 7) C.1.1 C.1.2.1 C.1.2.2.2.2 in_X0 tyX0 tyX0_ok nmX0 C.1.2.2.2.1 C.2.2.2.1 hP hD hS 0 he rfl k hk (C.1.2.2.2.2 _ hL) (fun _ h9 => hc ▸ h9) hfin hin hc hty hn hfit hlen hd (fun H1 locs1 hP1 hD1 hS1 => K H1 locs1 ls hP1 hD1 hS1 h)
theorem j_put1 (C : Cx p s m args meth c cc nL RX1 ret D tys A) (k : Nat) (ws' : va_W) {a x : Nat} {fs : List Value} {ty : FieldType} {index pc' : Nat} (he : ws[0]? = some (a, .inr (1, fs))) (hk : k < 4) (hL : Cond.fieldLink RX1 index RX1 (TX1 k).2.1 (TX1 k).2.2.1 ∈ lw_all) (hc : (TX1 k).1 = RX1) (hfin : (TX1 k).2.2.2 = false) (hty : parseFieldDescriptor (TX1 k).2.2.1 = some ty) (hn : narrow ty (.ref x) = .ref x) (hfit : fits ty (.ref x) = true) (hlen : k < fs.length) (hw : ws.set 0 (a, .inr (1, fs.set k (.ref x))) = ws') (hd : decode cc pc = .ok (.putfield index, 3)) (hp : pc + 3 = pc') (K : J p l e R s m args below meth c D A nL cells slots Q ws' pc' lv st) : J p l e R s m args below meth c D A nL cells slots Q ws pc lv (.ref x :: .ref a :: st) := by
  subst hp; subst hw
  intro H locs ls hP hD hS h
  exact va_put (D := D) (ci := 1) (v := .ref x) (ty := ty) (C := RX1) (T := TX1) (N := 4) C.1.1 C.1.2.1 C.1.2.2.2.2 in_X1 tyX1 tyX1_ok nmX1 C.1.2.2.2.1 C.2.2.2.1 hP hD hS 0 he rfl k hk (C.1.2.2.2.2 _ hL) (fun _ h9 => hc ▸ h9) hfin hty hn hfit hlen hd (fun H1 locs1 hP1 hD1 hS1 => K H1 locs1 ls hP1 hD1 hS1 h)
theorem j_vretQ {S : Type} {post : S → Prop} {B : S → State → Prop} (C : Cx p s m args meth c cc nL own none D tys A) (u : S) (hp : post u) (hB : ∀ t : State, va_P D vwCl ws t.heap → va_K D vwCl tys t → va_D A ws → B u t) (hd : decode cc pc = .ok (.return_, 1)) : J p l e R s m args below meth c D A nL cells slots (MQ below (va_Qv post B A) args s cells slots A) ws pc lv [] := by
  intro H locs ls hP hD hS h
  exact W.vret C.1.1 C.1.2.1 C.2.1 (fun t ht hW => ⟨⟨u, rfl, hp, hB t (by rw [ht]; exact hP) (va_K.moved hW.alike C.2.2.2.1) hD⟩, hS.F ht⟩) hS.2.2 hd C.2.2.1
end JN
abbrev z0 : Nat → Int32 := fun _ => 0
def gQ (D : va_G) (A : Nat → Prop) (h : Nat) (u : (Nat → Nat) × ClassId × ClassId) (t : State) : Prop := va_P D vwCl (gW h u.1 u.2.1 u.2.2 z0 z0 z0 (upd z0 6 0) z0 z0 z0) t.heap ∧ va_K D vwCl (tyZ u.2.1 u.2.2) t ∧ va_D A (gW h u.1 u.2.1 u.2.2 z0 z0 z0 (upd z0 6 0) z0 z0 z0)
set_option maxHeartbeats 4000000 in
/-- the constructor: its arrays, all zero -/
theorem met_X0_init (l : Launch) (D : va_G) (h sz : Nat) : Met l yX0_init (ws_ yX0_init cX0_init 1 none) ({ frames := 1, cells := 7, slots := 91, locals := 12 } : Room) (va_Pc [.ref h] (fun U => U.heap.size = sz ∧ va_P D vwCl [(h, .inr (0, [.null, .null, .null, .null, .null, .null, .null]))] U.heap ∧ va_K D vwCl [] U ∧ va_D (fun _ => True) [(h, .inr (0, [.null, .null, .null, .null, .null, .null, .null]))])) (va_Qv (fun _ => True) (gQ D (va_A [(h, .inr (0, [.null, .null, .null, .null, .null, .null, .null]))] sz) h) (va_A [(h, .inr (0, [.null, .null, .null, .null, .null, .null, .null]))] sz)) 7 91 (va_A [(h, .inr (0, [.null, .null, .null, .null, .null, .null, .null]))] sz) := by
  refine Met.ofW (cc := cX0_init) (maxL := 1) (ret := none) (by decide) rfl ?_
  intro p e s m args below meth c s₁ B hml hv
  obtain ⟨rfl, hsz, hP, hK, hD0⟩ := hv
  have hts := atoms_spec (ws := ws_ yX0_init cX0_init 1 none) B.pre
  have hts : ∀ w ∈ lw_all, w.before _ s = true := fun w h => hts w (List.mem_cons_of_mem _ h)
  have hown : s.vm.findClass RX0 = some m.cls := findClass_of_methodNamed B.named
  have hin : meth.name = "<init>" := (name_of_methodNamed B.named B.method).1
  subst hsz
  have hD := hD0.self (sz := s.heap.size)
  generalize hAe : va_A [(h, .inr (0, [.null, .null, .null, .null, .null, .null, .null]))] s.heap.size = A at hD ⊢
  have hA : ∀ q : Nat, s.heap.size ≤ q → A q := fun q h => by rw [← hAe]; exact Or.inr h
  have hS : va_S A s.heap s.heap [] := va_S.rf
  have hl := lv_entry ([.ref h]) (n := 1) (Nat.le_of_ble_eq_true rfl)
  rw [lg_entry_eq]
  generalize (lg_sl ([.ref h]) ++ List.replicate (1 - (lg_sl ([.ref h])).length) Slot.unset).toArray = ls at hl ⊢
  have hl : lv_has ls 1 [(0, .ref h)] := hl
  refine lv_aload_n B.exec B.bytes dX0_init_0 rfl (lv_at hl 0 rfl) ?_
  refine W.objInit B.exec B.bytes hown (hts _ q22) (hts _ q23) (hts _ q24) rfl (by rw [hml]; exact hl.1) rfl dX0_init_1 (Nat.le_of_ble_eq_true rfl) (Nat.le_of_ble_eq_true rfl) ?_
  refine W.eq (g2 := F0 m 4 ls []) rfl ?_
  have C : Cx p s m [Value.ref h].toArray meth c cX0_init 1 RX0 none D [] A := ⟨⟨B.exec, B.bytes, hml, hown, hts⟩, B.returns, B.notSynchronized, hK, hA⟩
  refine J.go (ws := [(h, .inr (0, [.null, .null, .null, .null, .null, .null, .null]))]) (lv := [(0, .ref h)]) ?_ hP hD hS hl
  refine j_aload_n C 0 rfl rfl dX0_init_4 rfl ?_
  refine j_bipush C 17 dX0_init_5 (by decide) rfl ?_
  refine j_newa (atype := .int) (ty := .int) C rfl q47 rfl 17 (by decide) rfl (by decide) (Nat.le_of_ble_eq_true rfl) (Nat.le_of_ble_eq_true rfl) dX0_init_7 rfl (fun a0 dZ C => ?_)
  refine j_putF0 (ty := .array .int) C hin 0 ([(h, .inr (0, [.ref a0, .null, .null, .null, .null, .null, .null])), (a0, .inl (dZ, 17, .inl (fun _ => 0)))]) rfl (by decide) q25 rfl rfl (by decide +kernel) rfl rfl (Nat.le_of_ble_eq_true rfl) rfl dX0_init_9 rfl ?_
  refine j_aload_n C 0 rfl rfl dX0_init_12 rfl ?_
  refine j_bipush C 17 dX0_init_13 (by decide) rfl ?_
  refine j_newa (atype := .boolean) (ty := .boolean) C rfl q48 rfl 17 (by decide) rfl (by decide) (Nat.le_of_ble_eq_true rfl) (Nat.le_of_ble_eq_true rfl) dX0_init_15 rfl (fun a1 dB C => ?_)
  refine j_putF0 (ty := .array .boolean) C hin 1 ([(h, .inr (0, [.ref a0, .ref a1, .null, .null, .null, .null, .null])), (a0, .inl (dZ, 17, .inl (fun _ => 0))), (a1, .inl (dB, 17, .inl (fun _ => 0)))]) rfl (by decide) q26 rfl rfl (by decide +kernel) rfl rfl (Nat.le_of_ble_eq_true rfl) rfl dX0_init_17 rfl ?_
  refine j_aload_n C 0 rfl rfl dX0_init_20 rfl ?_
  refine j_bipush C 17 dX0_init_21 (by decide) rfl ?_
  refine j_newa (atype := .int) (ty := .int) C rfl q47 rfl 17 (by decide) rfl (by decide) (Nat.le_of_ble_eq_true rfl) (Nat.le_of_ble_eq_true rfl) dX0_init_23 rfl (fun a2 c_2 C => ?_)
  obtain rfl : dZ = c_2 := va_K_same C.2.2.2.1 (i := 0) (j := 2) (Or.inl rfl) rfl rfl
  have C := C.sub (tys' := [(dZ, .int), (dB, .boolean)]) [0, 1] rfl
  refine j_putF0 (ty := .array .int) C hin 2 ([(h, .inr (0, [.ref a0, .ref a1, .ref a2, .null, .null, .null, .null])), (a0, .inl (dZ, 17, .inl (fun _ => 0))), (a1, .inl (dB, 17, .inl (fun _ => 0))), (a2, .inl (dZ, 17, .inl (fun _ => 0)))]) rfl (by decide) q27 rfl rfl (by decide +kernel) rfl rfl (Nat.le_of_ble_eq_true rfl) rfl dX0_init_25 rfl ?_
  refine j_aload_n C 0 rfl rfl dX0_init_28 rfl ?_
  refine j_bipush C 8 dX0_init_29 (by decide) rfl ?_
  refine j_newa (atype := .int) (ty := .int) C rfl q47 rfl 8 (by decide) rfl (by decide) (Nat.le_of_ble_eq_true rfl) (Nat.le_of_ble_eq_true rfl) dX0_init_31 rfl (fun a3 c_3 C => ?_)
  obtain rfl : dZ = c_3 := va_K_same C.2.2.2.1 (i := 0) (j := 2) (Or.inl rfl) rfl rfl
  have C := C.sub (tys' := [(dZ, .int), (dB, .boolean)]) [0, 1] rfl
  refine j_putF0 (ty := .array .int) C hin 3 ([(h, .inr (0, [.ref a0, .ref a1, .ref a2, .ref a3, .null, .null, .null])), (a0, .inl (dZ, 17, .inl (fun _ => 0))), (a1, .inl (dB, 17, .inl (fun _ => 0))), (a2, .inl (dZ, 17, .inl (fun _ => 0))), (a3, .inl (dZ, 8, .inl (fun _ => 0)))]) rfl (by decide) q28 rfl rfl (by decide +kernel) rfl rfl (Nat.le_of_ble_eq_true rfl) rfl dX0_init_33 rfl ?_
  refine j_aload_n C 0 rfl rfl dX0_init_36 rfl ?_
  refine j_bipush C 8 dX0_init_37 (by decide) rfl ?_
  refine j_newa (atype := .boolean) (ty := .boolean) C rfl q48 rfl 8 (by decide) rfl (by decide) (Nat.le_of_ble_eq_true rfl) (Nat.le_of_ble_eq_true rfl) dX0_init_39 rfl (fun a4 c_4 C => ?_)
  obtain rfl : dB = c_4 := va_K_same C.2.2.2.1 (i := 1) (j := 2) (Or.inr rfl) rfl rfl
  have C := C.sub (tys' := [(dZ, .int), (dB, .boolean)]) [0, 1] rfl
  refine j_putF0 (ty := .array .boolean) C hin 4 ([(h, .inr (0, [.ref a0, .ref a1, .ref a2, .ref a3, .ref a4, .null, .null])), (a0, .inl (dZ, 17, .inl (fun _ => 0))), (a1, .inl (dB, 17, .inl (fun _ => 0))), (a2, .inl (dZ, 17, .inl (fun _ => 0))), (a3, .inl (dZ, 8, .inl (fun _ => 0))), (a4, .inl (dB, 8, .inl (fun _ => 0)))]) rfl (by decide) q29 rfl rfl (by decide +kernel) rfl rfl (Nat.le_of_ble_eq_true rfl) rfl dX0_init_41 rfl ?_
  refine j_aload_n C 0 rfl rfl dX0_init_44 rfl ?_
  refine j_bipush C 12 dX0_init_45 (by decide) rfl ?_
  refine j_newa (atype := .int) (ty := .int) C rfl q47 rfl 12 (by decide) rfl (by decide) (Nat.le_of_ble_eq_true rfl) (Nat.le_of_ble_eq_true rfl) dX0_init_47 rfl (fun a5 c_5 C => ?_)
  obtain rfl : dZ = c_5 := va_K_same C.2.2.2.1 (i := 0) (j := 2) (Or.inl rfl) rfl rfl
  have C := C.sub (tys' := [(dZ, .int), (dB, .boolean)]) [0, 1] rfl
  refine j_putF0 (ty := .array .int) C hin 5 ([(h, .inr (0, [.ref a0, .ref a1, .ref a2, .ref a3, .ref a4, .ref a5, .null])), (a0, .inl (dZ, 17, .inl (fun _ => 0))), (a1, .inl (dB, 17, .inl (fun _ => 0))), (a2, .inl (dZ, 17, .inl (fun _ => 0))), (a3, .inl (dZ, 8, .inl (fun _ => 0))), (a4, .inl (dB, 8, .inl (fun _ => 0))), (a5, .inl (dZ, 12, .inl (fun _ => 0)))]) rfl (by decide) q30 rfl rfl (by decide +kernel) rfl rfl (Nat.le_of_ble_eq_true rfl) rfl dX0_init_49 rfl ?_
  refine j_aload_n C 0 rfl rfl dX0_init_52 rfl ?_
  refine j_bipush C 12 dX0_init_53 (by decide) rfl ?_
  refine j_newa (atype := .int) (ty := .int) C rfl q47 rfl 12 (by decide) rfl (by decide) (Nat.le_of_ble_eq_true rfl) (Nat.le_of_ble_eq_true rfl) dX0_init_55 rfl (fun a6 c_6 C => ?_)
  obtain rfl : dZ = c_6 := va_K_same C.2.2.2.1 (i := 0) (j := 2) (Or.inl rfl) rfl rfl
  have C := C.sub (tys' := [(dZ, .int), (dB, .boolean)]) [0, 1] rfl
  refine j_putF0 (ty := .array .int) C hin 6 ([(h, .inr (0, [.ref a0, .ref a1, .ref a2, .ref a3, .ref a4, .ref a5, .ref a6])), (a0, .inl (dZ, 17, .inl (fun _ => 0))), (a1, .inl (dB, 17, .inl (fun _ => 0))), (a2, .inl (dZ, 17, .inl (fun _ => 0))), (a3, .inl (dZ, 8, .inl (fun _ => 0))), (a4, .inl (dB, 8, .inl (fun _ => 0))), (a5, .inl (dZ, 12, .inl (fun _ => 0))), (a6, .inl (dZ, 12, .inl (fun _ => 0)))]) rfl (by decide) q31 rfl rfl (by decide +kernel) rfl rfl (Nat.le_of_ble_eq_true rfl) rfl dX0_init_57 rfl ?_
  refine j_widen (k := 7) (n := 91) (Nat.le_of_ble_eq_true rfl) (Nat.le_of_ble_eq_true rfl) ?_
  refine j_aload_n C 0 rfl rfl dX0_init_60 rfl ?_
  refine j_get0 C 3 rfl (by decide) q28 rfl rfl dX0_init_61 rfl ?_
  refine j_bipush C 6 dX0_init_64 (by decide) rfl ?_
  refine j_iconst C 0 dX0_init_66 (by decide) rfl ?_
  refine j_top2 (y := nI 6) rfl ?_
  refine j_iast (k := 6) C 4 (gW h (fun k => match k with | 0 => a0 | 1 => a1 | 2 => a2 | 3 => a3 | 4 => a4 | 5 => a5 | _ => a6) dZ dB z0 z0 z0 (upd z0 6 0) z0 z0 z0) rfl rfl (by decide) (by decide) rfl dX0_init_67 rfl ?_
  exact j_vretQ C (fun k => match k with | 0 => a0 | 1 => a1 | 2 => a2 | 3 => a3 | 4 => a4 | 5 => a5 | _ => a6, dZ, dB) trivial (fun t h1 h2 h3 => ⟨h1, h2, h3⟩) dX0_init_68
theorem loop_inv {σ : Type} (N : Nat) (hd : Nat → σ → Prop) (I : Nat → σ → Prop) (hs : ∀ i s, i < N → I i s → (∀ s', I (i + 1) s' → hd (i + 1) s') → hd i s) (hx : ∀ s, I N s → hd N s) : ∀ n i s, i + n = N → I i s → hd i s := by
  intro n
  induction n with
  | zero => intro i s h hi; have : i = N := by omega
            subst this; exact hx s hi
  | succ n ih => intro i s h hi; exact hs i s (by omega) hi (fun s' h' => ih (i + 1) s' (by omega) h')
theorem mi_fe : ∀ i, i < 9 → 4 * (nI i / 3) + (nI i - nI i / 3 * 3) = nI (fe i) := by decide +kernel
theorem mi_se : ∀ i, i < 9 → nI (fe i) + 1 = nI (se i) := by decide +kernel
theorem mi_fe2 : ∀ i, i < 17 → 9 ≤ i → nI i - 9 = nI (fe i) := by decide +kernel
theorem mi_se2 : ∀ i, i < 17 → 9 ≤ i → nI i - 5 = nI (se i) := by decide +kernel
def OTn (n : Nat) (one two : Nat → Int32) : Prop := ∀ k, k < n → one k = nI (fe k) ∧ two k = nI (se k)
theorem OTn_s {n : Nat} {one two : Nat → Int32} {x y : Int32} (h : OTn n one two) (hx : x = nI (fe n)) (hy : y = nI (se n)) : OTn (n + 1) (upd one n x) (upd two n y) := by
  intro k hk
  by_cases e : k = n
  · subst e; rw [upd_s, upd_s]; exact ⟨hx, hy⟩
  · rw [upd_n _ _ e, upd_n _ _ e]; exact h k (by omega)
set_option maxHeartbeats 4000000 in
theorem init1_loops {p : Program} {l : Launch} {e : Env} {R : Room} {s : State} {m : MethodId} {args : Array Value} {below : List Frame} {meth : Method} {c : Code} {D : va_G} {A : Nat → Prop} {Q : State → Prop} {h : Nat} {q : Nat → Nat} {dZ dB : ClassId} (C : Cx p s m args meth c cX1_init 2 RX1 none D (tyZ dZ dB) A) (T : ∀ one two, OTw one two → J p l e R s m args below meth c D A 2 4 68 Q (mW h q dZ dB z0 z0 one two) 113 [(0, .ref h)] []) : J p l e R s m args below meth c D A 2 4 68 Q (mW h q dZ dB z0 z0 z0 z0) 36 [(0, .ref h)] [] := by
  refine j_iconst C 0 dX1_init_36 (by decide) rfl ?_
  refine j_istore_n C [(1, .int 0), (0, .ref h)] rfl (by decide) rfl dX1_init_37 rfl ?_
  refine j_lv [1, 0] (lv' := [(0, .ref h), (1, .int 0)]) rfl ?_
  refine loop_inv (σ := (Nat → Int32) × (Nat → Int32)) 9 (fun i z => J p l e R s m args below meth c D A 2 4 68 Q (mW h q dZ dB z0 z0 z.1 z.2) 38 [(0, .ref h), (1, .int (nI i))] []) (fun i z => OTn i z.1 z.2) ?_ ?_ 9 0 (z0, z0) rfl (fun k hk => absurd hk (Nat.not_lt_zero k))
  · rintro i ⟨one, two⟩ hi hI K
    have hI : OTn i one two := hI
    show J p l e R s m args below meth c D A 2 4 68 Q (mW h q dZ dB z0 z0 one two) 38 [(0, .ref h), (1, .int (nI i))] []
    refine j_iload_n C 1 rfl rfl dX1_init_38 rfl ?_
    refine j_bipush C 9 dX1_init_39 (by decide) rfl ?_
    refine j_icmp_ge C 79 dX1_init_41 (by decide) rfl (fun c_1 => absurd c_1 (nI_ge (a := i) (b := 9) hi (by decide))) (fun _ => ?_)
    refine j_aload_n C 0 rfl rfl dX1_init_44 rfl ?_
    refine j_get1 C 2 rfl (by decide) q172 rfl rfl dX1_init_45 rfl ?_
    refine j_iload_n C 1 rfl rfl dX1_init_48 rfl ?_
    refine j_iconst C 4 dX1_init_49 (by decide) rfl ?_
    refine j_iload_n C 1 rfl rfl dX1_init_50 rfl ?_
    refine j_iconst C 3 dX1_init_51 (by decide) rfl ?_
    refine j_idiv C (by decide) dX1_init_52 rfl ?_
    refine j_imul C dX1_init_53 rfl ?_
    refine j_iload_n C 1 rfl rfl dX1_init_54 rfl ?_
    refine j_iconst C 3 dX1_init_55 (by decide) rfl ?_
    refine j_irem C (by decide) dX1_init_56 rfl ?_
    refine j_iadd C dX1_init_57 rfl ?_
    refine j_top (mi_fe i hi) ?_
    refine j_iast (k := i) C 3 (mW h q dZ dB z0 z0 (upd one i (nI (fe i))) two) rfl rfl (by omega) (by decide) rfl dX1_init_58 rfl ?_
    refine j_aload_n C 0 rfl rfl dX1_init_59 rfl ?_
    refine j_get1 C 3 rfl (by decide) q173 rfl rfl dX1_init_60 rfl ?_
    refine j_iload_n C 1 rfl rfl dX1_init_63 rfl ?_
    refine j_aload_n C 0 rfl rfl dX1_init_64 rfl ?_
    refine j_get1 C 2 rfl (by decide) q172 rfl rfl dX1_init_65 rfl ?_
    refine j_iload_n C 1 rfl rfl dX1_init_68 rfl ?_
    refine j_iald (k := i) C 3 rfl rfl (by omega) (by decide) dX1_init_69 rfl ?_
    refine j_iconst C 1 dX1_init_70 (by decide) rfl ?_
    refine j_iadd C dX1_init_71 rfl ?_
    refine j_top (y := nI (se i)) (by rw [upd_s]; exact mi_se i hi) ?_
    refine j_iast (k := i) C 4 (mW h q dZ dB z0 z0 (upd one i (nI (fe i))) (upd two i (nI (se i)))) rfl rfl (by omega) (by decide) rfl dX1_init_72 rfl ?_
    refine j_iinc C [(1, .int (nI (i + 1))), (0, .ref h)] 1 rfl (nI_1 _) (by decide) rfl dX1_init_73 rfl ?_
    refine j_goto C 38 dX1_init_76 (by decide) ?_
    refine j_lv [1, 0] (lv' := [(0, .ref h), (1, .int (nI (i + 1)))]) rfl ?_
    exact K (upd one i (nI (fe i)), upd two i (nI (se i))) (OTn_s hI rfl rfl)
  · rintro ⟨one, two⟩ hI
    have hI : OTn 9 one two := hI
    show J p l e R s m args below meth c D A 2 4 68 Q (mW h q dZ dB z0 z0 one two) 38 [(0, .ref h), (1, .int (nI 9))] []
    refine j_iload_n C 1 rfl rfl dX1_init_38 rfl ?_
    refine j_bipush C 9 dX1_init_39 (by decide) rfl ?_
    refine j_icmp_ge C 79 dX1_init_41 (by decide) rfl (fun _ => ?_) (fun c_1 => absurd (nI_le (a := 9) (b := 9) (by decide) (by decide)) c_1)
    refine j_bipush C 9 dX1_init_79 (by decide) rfl ?_
    refine j_istore_n C [(1, .int 9), (0, .ref h)] rfl (by decide) rfl dX1_init_81 rfl ?_
    refine j_lv [1, 0] (lv' := [(0, .ref h), (1, .int 9)]) rfl ?_
    refine loop_inv (σ := (Nat → Int32) × (Nat → Int32)) 17 (fun i z => J p l e R s m args below meth c D A 2 4 68 Q (mW h q dZ dB z0 z0 z.1 z.2) 82 [(0, .ref h), (1, .int (nI i))] []) (fun i z => 9 ≤ i ∧ OTn i z.1 z.2) ?_ ?_ 8 9 (one, two) rfl ⟨Nat.le_refl 9, hI⟩
    · rintro i ⟨one, two⟩ hi ⟨h9, hI⟩ K
      have hI : OTn i one two := hI
      show J p l e R s m args below meth c D A 2 4 68 Q (mW h q dZ dB z0 z0 one two) 82 [(0, .ref h), (1, .int (nI i))] []
      refine j_iload_n C 1 rfl rfl dX1_init_82 rfl ?_
      refine j_bipush C 17 dX1_init_83 (by decide) rfl ?_
      refine j_icmp_ge C 113 dX1_init_85 (by decide) rfl (fun c_1 => absurd c_1 (nI_ge (a := i) (b := 17) hi (by decide))) (fun _ => ?_)
      refine j_aload_n C 0 rfl rfl dX1_init_88 rfl ?_
      refine j_get1 C 2 rfl (by decide) q172 rfl rfl dX1_init_89 rfl ?_
      refine j_iload_n C 1 rfl rfl dX1_init_92 rfl ?_
      refine j_iload_n C 1 rfl rfl dX1_init_93 rfl ?_
      refine j_bipush C 9 dX1_init_94 (by decide) rfl ?_
      refine j_isub C dX1_init_96 rfl ?_
      refine j_top (mi_fe2 i hi h9) ?_
      refine j_iast (k := i) C 3 (mW h q dZ dB z0 z0 (upd one i (nI (fe i))) two) rfl rfl (by omega) (by decide) rfl dX1_init_97 rfl ?_
      refine j_aload_n C 0 rfl rfl dX1_init_98 rfl ?_
      refine j_get1 C 3 rfl (by decide) q173 rfl rfl dX1_init_99 rfl ?_
      refine j_iload_n C 1 rfl rfl dX1_init_102 rfl ?_
      refine j_iload_n C 1 rfl rfl dX1_init_103 rfl ?_
      refine j_iconst C 5 dX1_init_104 (by decide) rfl ?_
      refine j_isub C dX1_init_105 rfl ?_
      refine j_top (mi_se2 i hi h9) ?_
      refine j_iast (k := i) C 4 (mW h q dZ dB z0 z0 (upd one i (nI (fe i))) (upd two i (nI (se i)))) rfl rfl (by omega) (by decide) rfl dX1_init_106 rfl ?_
      refine j_iinc C [(1, .int (nI (i + 1))), (0, .ref h)] 1 rfl (nI_1 _) (by decide) rfl dX1_init_107 rfl ?_
      refine j_goto C 82 dX1_init_110 (by decide) ?_
      refine j_lv [1, 0] (lv' := [(0, .ref h), (1, .int (nI (i + 1)))]) rfl ?_
      exact K (upd one i (nI (fe i)), upd two i (nI (se i))) ⟨by omega, OTn_s hI rfl rfl⟩
    · rintro ⟨one, two⟩ ⟨-, hI⟩
      have hI : OTn 17 one two := hI
      show J p l e R s m args below meth c D A 2 4 68 Q (mW h q dZ dB z0 z0 one two) 82 [(0, .ref h), (1, .int (nI 17))] []
      refine j_iload_n C 1 rfl rfl dX1_init_82 rfl ?_
      refine j_bipush C 17 dX1_init_83 (by decide) rfl ?_
      refine j_icmp_ge C 113 dX1_init_85 (by decide) rfl (fun _ => ?_) (fun c_1 => absurd (nI_le (a := 17) (b := 17) (by decide) (by decide)) c_1)
      exact j_lv [0] rfl (T one two hI)
def mQ (D : va_G) (A : Nat → Prop) (h : Nat) (u : (Nat → Nat) × ClassId × ClassId × (Nat → Int32) × (Nat → Int32)) (t : State) : Prop := va_P D vwCl (mW h u.1 u.2.1 u.2.2.1 z0 z0 u.2.2.2.1 u.2.2.2.2) t.heap ∧ va_K D vwCl (tyZ u.2.1 u.2.2.1) t ∧ va_D A (mW h u.1 u.2.1 u.2.2.1 z0 z0 u.2.2.2.1 u.2.2.2.2)
set_option maxHeartbeats 4000000 in
/-- the constructor: its arrays, all zero but the streets ends -/
theorem met_X1_init (l : Launch) (D : va_G) (h sz : Nat) : Met l yX1_init (ws_ yX1_init cX1_init 2 none) ({ frames := 1, cells := 4, slots := 68, locals := 12 } : Room) (va_Pc [.ref h] (fun U => U.heap.size = sz ∧ va_P D vwCl [(h, .inr (1, [.null, .null, .null, .null]))] U.heap ∧ va_K D vwCl [] U ∧ va_D (fun _ => True) [(h, .inr (1, [.null, .null, .null, .null]))])) (va_Qv (fun u => OTw u.2.2.2.1 u.2.2.2.2) (mQ D (va_A [(h, .inr (1, [.null, .null, .null, .null]))] sz) h) (va_A [(h, .inr (1, [.null, .null, .null, .null]))] sz)) 4 68 (va_A [(h, .inr (1, [.null, .null, .null, .null]))] sz) := by
  refine Met.ofW (cc := cX1_init) (maxL := 2) (ret := none) (by decide) rfl ?_
  intro p e s m args below meth c s₁ B hml hv
  obtain ⟨rfl, hsz, hP, hK, hD0⟩ := hv
  have hts := atoms_spec (ws := ws_ yX1_init cX1_init 2 none) B.pre
  have hts : ∀ w ∈ lw_all, w.before _ s = true := fun w h => hts w (List.mem_cons_of_mem _ h)
  have hown : s.vm.findClass RX1 = some m.cls := findClass_of_methodNamed B.named
  have hin : meth.name = "<init>" := (name_of_methodNamed B.named B.method).1
  subst hsz
  have hD := hD0.self (sz := s.heap.size)
  generalize hAe : va_A [(h, .inr (1, [.null, .null, .null, .null]))] s.heap.size = A at hD ⊢
  have hA : ∀ q : Nat, s.heap.size ≤ q → A q := fun q h => by rw [← hAe]; exact Or.inr h
  have hS : va_S A s.heap s.heap [] := va_S.rf
  have hl := lv_entry ([.ref h]) (n := 2) (Nat.le_of_ble_eq_true rfl)
  rw [lg_entry_eq]
  generalize (lg_sl ([.ref h]) ++ List.replicate (2 - (lg_sl ([.ref h])).length) Slot.unset).toArray = ls at hl ⊢
  have hl : lv_has ls 2 [(0, .ref h)] := hl
  refine lv_aload_n B.exec B.bytes dX1_init_0 rfl (lv_at hl 0 rfl) ?_
  refine W.objInit B.exec B.bytes hown (hts _ q169) (hts _ q23) (hts _ q24) rfl (by rw [hml]; exact hl.1) rfl dX1_init_1 (Nat.le_of_ble_eq_true rfl) (Nat.le_of_ble_eq_true rfl) ?_
  refine W.eq (g2 := F0 m 4 ls []) rfl ?_
  have C : Cx p s m [Value.ref h].toArray meth c cX1_init 2 RX1 none D [] A := ⟨⟨B.exec, B.bytes, hml, hown, hts⟩, B.returns, B.notSynchronized, hK, hA⟩
  refine J.go (ws := [(h, .inr (1, [.null, .null, .null, .null]))]) (lv := [(0, .ref h)]) ?_ hP hD hS hl
  refine j_aload_n C 0 rfl rfl dX1_init_4 rfl ?_
  refine j_bipush C 17 dX1_init_5 (by decide) rfl ?_
  refine j_newa (atype := .int) (ty := .int) C rfl q47 rfl 17 (by decide) rfl (by decide) (Nat.le_of_ble_eq_true rfl) (Nat.le_of_ble_eq_true rfl) dX1_init_7 rfl (fun a0 dZ C => ?_)
  refine j_put1 (ty := .array .int) C 0 ([(h, .inr (1, [.ref a0, .null, .null, .null])), (a0, .inl (dZ, 17, .inl (fun _ => 0)))]) rfl (by decide) q170 rfl rfl (by decide +kernel) rfl rfl (Nat.le_of_ble_eq_true rfl) rfl dX1_init_9 rfl ?_
  refine j_aload_n C 0 rfl rfl dX1_init_12 rfl ?_
  refine j_bipush C 17 dX1_init_13 (by decide) rfl ?_
  refine j_newa (atype := .boolean) (ty := .boolean) C rfl q48 rfl 17 (by decide) rfl (by decide) (Nat.le_of_ble_eq_true rfl) (Nat.le_of_ble_eq_true rfl) dX1_init_15 rfl (fun a1 dB C => ?_)
  refine j_put1 (ty := .array .boolean) C 1 ([(h, .inr (1, [.ref a0, .ref a1, .null, .null])), (a0, .inl (dZ, 17, .inl (fun _ => 0))), (a1, .inl (dB, 17, .inl (fun _ => 0)))]) rfl (by decide) q171 rfl rfl (by decide +kernel) rfl rfl (Nat.le_of_ble_eq_true rfl) rfl dX1_init_17 rfl ?_
  refine j_aload_n C 0 rfl rfl dX1_init_20 rfl ?_
  refine j_bipush C 17 dX1_init_21 (by decide) rfl ?_
  refine j_newa (atype := .int) (ty := .int) C rfl q47 rfl 17 (by decide) rfl (by decide) (Nat.le_of_ble_eq_true rfl) (Nat.le_of_ble_eq_true rfl) dX1_init_23 rfl (fun a2 c_2 C => ?_)
  obtain rfl : dZ = c_2 := va_K_same C.2.2.2.1 (i := 0) (j := 2) (Or.inl rfl) rfl rfl
  have C := C.sub (tys' := [(dZ, .int), (dB, .boolean)]) [0, 1] rfl
  refine j_put1 (ty := .array .int) C 2 ([(h, .inr (1, [.ref a0, .ref a1, .ref a2, .null])), (a0, .inl (dZ, 17, .inl (fun _ => 0))), (a1, .inl (dB, 17, .inl (fun _ => 0))), (a2, .inl (dZ, 17, .inl (fun _ => 0)))]) rfl (by decide) q172 rfl rfl (by decide +kernel) rfl rfl (Nat.le_of_ble_eq_true rfl) rfl dX1_init_25 rfl ?_
  refine j_aload_n C 0 rfl rfl dX1_init_28 rfl ?_
  refine j_bipush C 17 dX1_init_29 (by decide) rfl ?_
  refine j_newa (atype := .int) (ty := .int) C rfl q47 rfl 17 (by decide) rfl (by decide) (Nat.le_of_ble_eq_true rfl) (Nat.le_of_ble_eq_true rfl) dX1_init_31 rfl (fun a3 c_3 C => ?_)
  obtain rfl : dZ = c_3 := va_K_same C.2.2.2.1 (i := 0) (j := 2) (Or.inl rfl) rfl rfl
  have C := C.sub (tys' := [(dZ, .int), (dB, .boolean)]) [0, 1] rfl
  refine j_put1 (ty := .array .int) C 3 ([(h, .inr (1, [.ref a0, .ref a1, .ref a2, .ref a3])), (a0, .inl (dZ, 17, .inl (fun _ => 0))), (a1, .inl (dB, 17, .inl (fun _ => 0))), (a2, .inl (dZ, 17, .inl (fun _ => 0))), (a3, .inl (dZ, 17, .inl (fun _ => 0)))]) rfl (by decide) q173 rfl rfl (by decide +kernel) rfl rfl (Nat.le_of_ble_eq_true rfl) rfl dX1_init_33 rfl ?_
  refine j_widen (k := 4) (n := 68) (Nat.le_of_ble_eq_true rfl) (Nat.le_of_ble_eq_true rfl) ?_
  refine init1_loops (h := h) (q := (fun k => match k with | 0 => a0 | 1 => a1 | 2 => a2 | _ => a3)) (dZ := dZ) (dB := dB) C (fun one two ho => ?_)
  exact j_vretQ C ((fun k => match k with | 0 => a0 | 1 => a1 | 2 => a2 | _ => a3), dZ, dB, one, two) ho (fun t h1 h2 h3 => ⟨h1, h2, h3⟩) dX1_init_113
end
section
set_option maxRecDepth 100000
/-! the law: its fifteen cases, one lemma each, and its loop -/
section JL
variable {p : Program} {l : Launch} {e : Env} {R : Room} {s : State} {m : MethodId} {args : Array Value} {below : List Frame} {meth : Method} {c : Code} {cc : ByteArray} {nL : Nat} {own : String} {ret : Option FieldType} {D : va_G} {tys : List (ClassId × FieldType)} {A : Nat → Prop} {cells slots : Nat} {Q : State → Prop} {ws : va_W} {pc : Nat} {lv : List (Nat × Value)} {st : List Value}
/-- the script at b -/
def Scr (s : State) (A : Nat → Prop) (b L : Nat) (xs : Nat → Int32) : Prop := va_X b L xs s s.heap ∧ b < s.heap.size ∧ ¬ A b ∧ L ≤ 192
theorem j_sld (C : Cx p s m args meth c cc nL own ret D tys A) {b L k : Nat} {xs : Nat → Int32} (hX : Scr s A b L xs) (hk : k < L) {pc' : Nat} (hd : decode cc pc = .ok (.iaload, 1)) (hp : pc + 1 = pc') (K : J p l e R s m args below meth c D A nL cells slots Q ws pc' lv (.int (xs k) :: st)) : J p l e R s m args below meth c D A nL cells slots Q ws pc lv (.int (nI k) :: .ref b :: st) := by
  have h192 := hX.2.2.2
  subst hp
  intro H locs ls hP hD hS h
  refine va_sld C.1.1 C.1.2.1 hX.1 hX.2.1 hX.2.2.1 hS (vp_in_nI hk (by omega)) hd ?_
  rw [nI_clamp (by omega)]
  exact K H locs ls hP hD hS h
theorem j_slen (C : Cx p s m args meth c cc nL own ret D tys A) {b L : Nat} {xs : Nat → Int32} (hX : Scr s A b L xs) {pc' : Nat} (hd : decode cc pc = .ok (.arraylength, 1)) (hp : pc + 1 = pc') (K : J p l e R s m args below meth c D A nL cells slots Q ws pc' lv (.int (nI L) :: st)) : J p l e R s m args below meth c D A nL cells slots Q ws pc lv (.ref b :: st) := by
  subst hp
  intro H locs ls hP hD hS h
  exact va_slen C.1.1 C.1.2.1 hX.1 hX.2.1 hX.2.2.1 hS hd (K H locs ls hP hD hS h)
theorem j_tsOut (C : Cx p s m args meth c cc nL own ret D tys A) {dflt lo hi : Int} {offs : Array Int} {len : Nat} {x : Int32} (tgt : Nat) (hd : decode cc pc = .ok (.tableswitch dflt lo hi offs, len)) (h : x.toInt < lo ∨ hi < x.toInt) (ht : (pc : Int) + dflt = (tgt : Int)) (K : J p l e R s m args below meth c D A nL cells slots Q ws tgt lv st) : J p l e R s m args below meth c D A nL cells slots Q ws pc lv (.int x :: st) := fun H locs ls hP hD hS hl => lv_tableOut C.1.1 C.1.2.1 hd h ht (K H locs ls hP hD hS hl)
theorem j_tsIn (C : Cx p s m args meth c cc nL own ret D tys A) {dflt lo hi : Int} {offs : Array Int} {len : Nat} {x : Int32} {off : Int} (tgt : Nat) (hd : decode cc pc = .ok (.tableswitch dflt lo hi offs, len)) (h1 : ¬ x.toInt < lo) (h2 : ¬ hi < x.toInt) (ho : offs[(x.toInt - lo).toNat]? = some off) (ht : (pc : Int) + off = (tgt : Int)) (K : J p l e R s m args below meth c D A nL cells slots Q ws tgt lv st) : J p l e R s m args below meth c D A nL cells slots Q ws pc lv (.int x :: st) := fun H locs ls hP hD hS hl => lv_tableIn C.1.1 C.1.2.1 hd h1 h2 ho ht (K H locs ls hP hD hS hl)
end JL
theorem nI_2 (a : Nat) : nI a + 2 = nI (a + 2) := nI_add a 2
set_option maxHeartbeats 4000000 in
theorem law_set {p : Program} {l : Launch} {e : Env} {s : State} {m : MethodId} {args : Array Value} {below : List Frame} {meth : Method} {c : Code} {D : va_G} {A : Nat → Prop} {Q : State → Prop} {b L h h2 : Nat} {xs : Nat → Int32} {q q2 : Nat → Nat} {dZ dB : ClassId} {one two : Nat → Int32} {n : Nat} {cap clo use len set par que : Nat → Int32} (C : Cx p s m args meth c cL_law 4 "GridDualsLaw" (some .boolean) D (tyZ dZ dB) A) (hX : Scr s A b L xs) (ho : OTw one two) (hn : n + 3 ≤ L) (hc : Cb cap 20) (hz : Zb clo) (K : ∀ cap clo use len set par que, Cb cap 20 → Zb clo → J p l e room_1 s m args below meth c D A 4 13 170 Q (gW h q dZ dB cap clo use len set par que ++ mW h2 q2 dZ dB cap clo one two) 473 [(0, .ref b), (1, .ref h), (2, .ref h2), (3, .int (nI n))] []) : J p l e room_1 s m args below meth c D A 4 13 170 Q (gW h q dZ dB cap clo use len set par que ++ mW h2 q2 dZ dB cap clo one two) 108 [(0, .ref b), (1, .ref h), (2, .ref h2), (3, .int (nI n))] [] := by
  refine j_aload_n C 1 rfl rfl dL_law_108 rfl ?_
  refine j_aload_n C 0 rfl rfl dL_law_109 rfl ?_
  refine j_iload_n C 3 rfl rfl dL_law_110 rfl ?_
  refine j_iconst C 1 dL_law_111 (by decide) rfl ?_
  refine j_iadd C dL_law_112 rfl ?_
  refine j_top (nI_1 n) ?_
  refine j_sld C hX (k := n + 1) (by omega) dL_law_113 rfl ?_
  refine j_aload_n C 0 rfl rfl dL_law_114 rfl ?_
  refine j_iload_n C 3 rfl rfl dL_law_115 rfl ?_
  refine j_iconst C 2 dL_law_116 (by decide) rfl ?_
  refine j_iadd C dL_law_117 rfl ?_
  refine j_top (nI_2 n) ?_
  refine j_sld C hX (k := n + 2) (by omega) dL_law_118 rfl ?_
  refine j_callP C [0, 1, 2, 3, 4, 5, 6, 7] [8, 9, 10, 11, 12] (met_X0_set l D h q dZ dB cap clo use len set par que (xs (n + 1)) (xs (n + 2))) (wr := mW h2 q2 dZ dB cap clo one two) rfl rfl rfl rfl rfl (by decide) q49 q50 q51 q15 q52 ds_X0_set ⟨rfl, rfl⟩ ⟨Nat.le_of_ble_eq_true rfl, Nat.le_of_ble_eq_true rfl⟩ rfl rfl rfl rfl (rest := []) rfl (Nat.le_of_ble_eq_true rfl) ⟨Nat.le_of_ble_eq_true rfl, Nat.le_of_ble_eq_true rfl⟩ dL_law_119 rfl (st' := [.int ((g_set cap (xs (n + 1)) (xs (n + 2))).1)]) rfl (ws' := mW h2 q2 dZ dB cap clo one two ++ gW h q dZ dB ((g_set cap (xs (n + 1)) (xs (n + 2))).2) clo use len set par que) rfl ?_
  refine j_aload_n C 2 rfl rfl dL_law_122 rfl ?_
  refine j_aload_n C 0 rfl rfl dL_law_123 rfl ?_
  refine j_iload_n C 3 rfl rfl dL_law_124 rfl ?_
  refine j_iconst C 1 dL_law_125 (by decide) rfl ?_
  refine j_iadd C dL_law_126 rfl ?_
  refine j_top (nI_1 n) ?_
  refine j_sld C hX (k := n + 1) (by omega) dL_law_127 rfl ?_
  refine j_aload_n C 0 rfl rfl dL_law_128 rfl ?_
  refine j_iload_n C 3 rfl rfl dL_law_129 rfl ?_
  refine j_iconst C 2 dL_law_130 (by decide) rfl ?_
  refine j_iadd C dL_law_131 rfl ?_
  refine j_top (nI_2 n) ?_
  refine j_sld C hX (k := n + 2) (by omega) dL_law_132 rfl ?_
  refine j_callP C [0, 1, 2, 3, 4] [5, 6, 7, 8, 9, 10, 11, 12] (met_X1_set l D h2 q2 dZ dB cap clo one two (xs (n + 1)) (xs (n + 2))) (wr := gW h q dZ dB ((g_set cap (xs (n + 1)) (xs (n + 2))).2) clo use len set par que) rfl rfl rfl rfl rfl (by decide) q183 q184 q185 q16 q186 ds_X1_set ⟨rfl, rfl⟩ ⟨Nat.le_of_ble_eq_true rfl, Nat.le_of_ble_eq_true rfl⟩ rfl rfl rfl rfl (rest := [.int ((g_set cap (xs (n + 1)) (xs (n + 2))).1)]) rfl (Nat.le_of_ble_eq_true rfl) ⟨Nat.le_of_ble_eq_true rfl, Nat.le_of_ble_eq_true rfl⟩ dL_law_133 rfl (st' := [.int ((m_set cap (xs (n + 1)) (xs (n + 2))).1), .int ((g_set cap (xs (n + 1)) (xs (n + 2))).1)]) rfl (ws' := gW h q dZ dB ((g_set cap (xs (n + 1)) (xs (n + 2))).2) clo use len set par que ++ mW h2 q2 dZ dB ((m_set cap (xs (n + 1)) (xs (n + 2))).2) clo one two) rfl ?_
  rw [set_eq]
  refine j_icmp_eq C 473 dL_law_136 (by decide) rfl (fun _ => ?_) (fun c_1 => absurd rfl c_1)
  exact K _ _ _ _ _ _ _ (by rw [← set_eq]; exact set_Cb hc _ _) hz
set_option maxHeartbeats 4000000 in
theorem law_sow {p : Program} {l : Launch} {e : Env} {s : State} {m : MethodId} {args : Array Value} {below : List Frame} {meth : Method} {c : Code} {D : va_G} {A : Nat → Prop} {Q : State → Prop} {b L h h2 : Nat} {xs : Nat → Int32} {q q2 : Nat → Nat} {dZ dB : ClassId} {one two : Nat → Int32} {n : Nat} {cap clo use len set par que : Nat → Int32} (C : Cx p s m args meth c cL_law 4 "GridDualsLaw" (some .boolean) D (tyZ dZ dB) A) (hX : Scr s A b L xs) (ho : OTw one two) (hn : n + 3 ≤ L) (hc : Cb cap 20) (hz : Zb clo) (K : ∀ cap clo use len set par que, Cb cap 20 → Zb clo → J p l e room_1 s m args below meth c D A 4 13 170 Q (gW h q dZ dB cap clo use len set par que ++ mW h2 q2 dZ dB cap clo one two) 473 [(0, .ref b), (1, .ref h), (2, .ref h2), (3, .int (nI n))] []) : J p l e room_1 s m args below meth c D A 4 13 170 Q (gW h q dZ dB cap clo use len set par que ++ mW h2 q2 dZ dB cap clo one two) 141 [(0, .ref b), (1, .ref h), (2, .ref h2), (3, .int (nI n))] [] := by
  refine j_aload_n C 1 rfl rfl dL_law_141 rfl ?_
  refine j_aload_n C 0 rfl rfl dL_law_142 rfl ?_
  refine j_iload_n C 3 rfl rfl dL_law_143 rfl ?_
  refine j_iconst C 1 dL_law_144 (by decide) rfl ?_
  refine j_iadd C dL_law_145 rfl ?_
  refine j_top (nI_1 n) ?_
  refine j_sld C hX (k := n + 1) (by omega) dL_law_146 rfl ?_
  refine j_aload_n C 0 rfl rfl dL_law_147 rfl ?_
  refine j_iload_n C 3 rfl rfl dL_law_148 rfl ?_
  refine j_iconst C 2 dL_law_149 (by decide) rfl ?_
  refine j_iadd C dL_law_150 rfl ?_
  refine j_top (nI_2 n) ?_
  refine j_sld C hX (k := n + 2) (by omega) dL_law_151 rfl ?_
  refine j_callP C [0, 1, 2, 3, 4, 5, 6, 7] [8, 9, 10, 11, 12] (met_X0_sow l D h q dZ dB cap clo use len set par que (xs (n + 1)) (xs (n + 2))) (wr := mW h2 q2 dZ dB cap clo one two) rfl rfl rfl rfl rfl (by decide) q56 q57 q58 q15 q59 ds_X0_sow ⟨rfl, rfl⟩ ⟨Nat.le_of_ble_eq_true rfl, Nat.le_of_ble_eq_true rfl⟩ rfl rfl rfl rfl (rest := []) rfl (Nat.le_of_ble_eq_true rfl) ⟨Nat.le_of_ble_eq_true rfl, Nat.le_of_ble_eq_true rfl⟩ dL_law_152 rfl (st' := [.int ((g_sow cap (xs (n + 1)) (xs (n + 2))).1)]) rfl (ws' := mW h2 q2 dZ dB cap clo one two ++ gW h q dZ dB ((g_sow cap (xs (n + 1)) (xs (n + 2))).2) clo use len set par que) rfl ?_
  refine j_aload_n C 2 rfl rfl dL_law_155 rfl ?_
  refine j_aload_n C 0 rfl rfl dL_law_156 rfl ?_
  refine j_iload_n C 3 rfl rfl dL_law_157 rfl ?_
  refine j_iconst C 1 dL_law_158 (by decide) rfl ?_
  refine j_iadd C dL_law_159 rfl ?_
  refine j_top (nI_1 n) ?_
  refine j_sld C hX (k := n + 1) (by omega) dL_law_160 rfl ?_
  refine j_aload_n C 0 rfl rfl dL_law_161 rfl ?_
  refine j_iload_n C 3 rfl rfl dL_law_162 rfl ?_
  refine j_iconst C 2 dL_law_163 (by decide) rfl ?_
  refine j_iadd C dL_law_164 rfl ?_
  refine j_top (nI_2 n) ?_
  refine j_sld C hX (k := n + 2) (by omega) dL_law_165 rfl ?_
  refine j_callP C [0, 1, 2, 3, 4] [5, 6, 7, 8, 9, 10, 11, 12] (met_X1_sow l D h2 q2 dZ dB cap clo one two (xs (n + 1)) (xs (n + 2))) (wr := gW h q dZ dB ((g_sow cap (xs (n + 1)) (xs (n + 2))).2) clo use len set par que) rfl rfl rfl rfl rfl (by decide) q191 q192 q193 q16 q194 ds_X1_sow ⟨rfl, rfl⟩ ⟨Nat.le_of_ble_eq_true rfl, Nat.le_of_ble_eq_true rfl⟩ rfl rfl rfl rfl (rest := [.int ((g_sow cap (xs (n + 1)) (xs (n + 2))).1)]) rfl (Nat.le_of_ble_eq_true rfl) ⟨Nat.le_of_ble_eq_true rfl, Nat.le_of_ble_eq_true rfl⟩ dL_law_166 rfl (st' := [.int ((m_sow cap (xs (n + 1)) (xs (n + 2))).1), .int ((g_sow cap (xs (n + 1)) (xs (n + 2))).1)]) rfl (ws' := gW h q dZ dB ((g_sow cap (xs (n + 1)) (xs (n + 2))).2) clo use len set par que ++ mW h2 q2 dZ dB ((m_sow cap (xs (n + 1)) (xs (n + 2))).2) clo one two) rfl ?_
  rw [sow_eq]
  refine j_icmp_eq C 473 dL_law_169 (by decide) rfl (fun _ => ?_) (fun c_1 => absurd rfl c_1)
  exact K _ _ _ _ _ _ _ (by rw [← sow_eq]; exact sow_Cb hc _ _) hz
set_option maxHeartbeats 4000000 in
theorem law_close {p : Program} {l : Launch} {e : Env} {s : State} {m : MethodId} {args : Array Value} {below : List Frame} {meth : Method} {c : Code} {D : va_G} {A : Nat → Prop} {Q : State → Prop} {b L h h2 : Nat} {xs : Nat → Int32} {q q2 : Nat → Nat} {dZ dB : ClassId} {one two : Nat → Int32} {n : Nat} {cap clo use len set par que : Nat → Int32} (C : Cx p s m args meth c cL_law 4 "GridDualsLaw" (some .boolean) D (tyZ dZ dB) A) (hX : Scr s A b L xs) (ho : OTw one two) (hn : n + 3 ≤ L) (hc : Cb cap 20) (hz : Zb clo) (K : ∀ cap clo use len set par que, Cb cap 20 → Zb clo → J p l e room_1 s m args below meth c D A 4 13 170 Q (gW h q dZ dB cap clo use len set par que ++ mW h2 q2 dZ dB cap clo one two) 473 [(0, .ref b), (1, .ref h), (2, .ref h2), (3, .int (nI n))] []) : J p l e room_1 s m args below meth c D A 4 13 170 Q (gW h q dZ dB cap clo use len set par que ++ mW h2 q2 dZ dB cap clo one two) 174 [(0, .ref b), (1, .ref h), (2, .ref h2), (3, .int (nI n))] [] := by
  refine j_aload_n C 1 rfl rfl dL_law_174 rfl ?_
  refine j_aload_n C 0 rfl rfl dL_law_175 rfl ?_
  refine j_iload_n C 3 rfl rfl dL_law_176 rfl ?_
  refine j_iconst C 1 dL_law_177 (by decide) rfl ?_
  refine j_iadd C dL_law_178 rfl ?_
  refine j_top (nI_1 n) ?_
  refine j_sld C hX (k := n + 1) (by omega) dL_law_179 rfl ?_
  refine j_aload_n C 0 rfl rfl dL_law_180 rfl ?_
  refine j_iload_n C 3 rfl rfl dL_law_181 rfl ?_
  refine j_iconst C 2 dL_law_182 (by decide) rfl ?_
  refine j_iadd C dL_law_183 rfl ?_
  refine j_top (nI_2 n) ?_
  refine j_sld C hX (k := n + 2) (by omega) dL_law_184 rfl ?_
  refine j_callP C [0, 1, 2, 3, 4, 5, 6, 7] [8, 9, 10, 11, 12] (met_X0_close l D h q dZ dB cap clo use len set par que (xs (n + 1)) (xs (n + 2))) (wr := mW h2 q2 dZ dB cap clo one two) rfl rfl rfl rfl rfl (by decide) q60 q61 q62 q15 q63 ds_X0_close ⟨rfl, rfl⟩ ⟨Nat.le_of_ble_eq_true rfl, Nat.le_of_ble_eq_true rfl⟩ rfl rfl rfl rfl (rest := []) rfl (Nat.le_of_ble_eq_true rfl) ⟨Nat.le_of_ble_eq_true rfl, Nat.le_of_ble_eq_true rfl⟩ dL_law_185 rfl (st' := [.int ((g_close clo (xs (n + 1)) (xs (n + 2))).1)]) rfl (ws' := mW h2 q2 dZ dB cap clo one two ++ gW h q dZ dB cap ((g_close clo (xs (n + 1)) (xs (n + 2))).2) use len set par que) rfl ?_
  refine j_aload_n C 2 rfl rfl dL_law_188 rfl ?_
  refine j_aload_n C 0 rfl rfl dL_law_189 rfl ?_
  refine j_iload_n C 3 rfl rfl dL_law_190 rfl ?_
  refine j_iconst C 1 dL_law_191 (by decide) rfl ?_
  refine j_iadd C dL_law_192 rfl ?_
  refine j_top (nI_1 n) ?_
  refine j_sld C hX (k := n + 1) (by omega) dL_law_193 rfl ?_
  refine j_aload_n C 0 rfl rfl dL_law_194 rfl ?_
  refine j_iload_n C 3 rfl rfl dL_law_195 rfl ?_
  refine j_iconst C 2 dL_law_196 (by decide) rfl ?_
  refine j_iadd C dL_law_197 rfl ?_
  refine j_top (nI_2 n) ?_
  refine j_sld C hX (k := n + 2) (by omega) dL_law_198 rfl ?_
  refine j_callP C [0, 1, 2, 3, 4] [5, 6, 7, 8, 9, 10, 11, 12] (met_X1_close l D h2 q2 dZ dB cap clo one two (xs (n + 1)) (xs (n + 2))) (wr := gW h q dZ dB cap ((g_close clo (xs (n + 1)) (xs (n + 2))).2) use len set par que) rfl rfl rfl rfl rfl (by decide) q195 q196 q197 q16 q198 ds_X1_close ⟨rfl, rfl⟩ ⟨Nat.le_of_ble_eq_true rfl, Nat.le_of_ble_eq_true rfl⟩ rfl rfl rfl rfl (rest := [.int ((g_close clo (xs (n + 1)) (xs (n + 2))).1)]) rfl (Nat.le_of_ble_eq_true rfl) ⟨Nat.le_of_ble_eq_true rfl, Nat.le_of_ble_eq_true rfl⟩ dL_law_199 rfl (st' := [.int ((m_close clo (xs (n + 1)) (xs (n + 2))).1), .int ((g_close clo (xs (n + 1)) (xs (n + 2))).1)]) rfl (ws' := gW h q dZ dB cap ((g_close clo (xs (n + 1)) (xs (n + 2))).2) use len set par que ++ mW h2 q2 dZ dB cap ((m_close clo (xs (n + 1)) (xs (n + 2))).2) one two) rfl ?_
  rw [close_eq]
  refine j_icmp_eq C 473 dL_law_202 (by decide) rfl (fun _ => ?_) (fun c_1 => absurd rfl c_1)
  exact K _ _ _ _ _ _ _ hc (by rw [← close_eq]; exact close_Zb hz _ _)
set_option maxHeartbeats 4000000 in
theorem law_capacity {p : Program} {l : Launch} {e : Env} {s : State} {m : MethodId} {args : Array Value} {below : List Frame} {meth : Method} {c : Code} {D : va_G} {A : Nat → Prop} {Q : State → Prop} {b L h h2 : Nat} {xs : Nat → Int32} {q q2 : Nat → Nat} {dZ dB : ClassId} {one two : Nat → Int32} {n : Nat} {cap clo use len set par que : Nat → Int32} (C : Cx p s m args meth c cL_law 4 "GridDualsLaw" (some .boolean) D (tyZ dZ dB) A) (hX : Scr s A b L xs) (ho : OTw one two) (hn : n + 3 ≤ L) (hc : Cb cap 20) (hz : Zb clo) (K : ∀ cap clo use len set par que, Cb cap 20 → Zb clo → J p l e room_1 s m args below meth c D A 4 13 170 Q (gW h q dZ dB cap clo use len set par que ++ mW h2 q2 dZ dB cap clo one two) 473 [(0, .ref b), (1, .ref h), (2, .ref h2), (3, .int (nI n))] []) : J p l e room_1 s m args below meth c D A 4 13 170 Q (gW h q dZ dB cap clo use len set par que ++ mW h2 q2 dZ dB cap clo one two) 207 [(0, .ref b), (1, .ref h), (2, .ref h2), (3, .int (nI n))] [] := by
  refine j_aload_n C 1 rfl rfl dL_law_207 rfl ?_
  refine j_aload_n C 0 rfl rfl dL_law_208 rfl ?_
  refine j_iload_n C 3 rfl rfl dL_law_209 rfl ?_
  refine j_iconst C 1 dL_law_210 (by decide) rfl ?_
  refine j_iadd C dL_law_211 rfl ?_
  refine j_top (nI_1 n) ?_
  refine j_sld C hX (k := n + 1) (by omega) dL_law_212 rfl ?_
  refine j_callP C [0, 1, 2, 3, 4, 5, 6, 7] [8, 9, 10, 11, 12] (met_X0_capacity l D h q dZ dB cap clo use len set par que (xs (n + 1))) (wr := mW h2 q2 dZ dB cap clo one two) rfl rfl rfl rfl rfl (by decide) q64 q65 q66 q15 q67 ds_X0_capacity ⟨rfl, rfl⟩ ⟨Nat.le_of_ble_eq_true rfl, Nat.le_of_ble_eq_true rfl⟩ rfl rfl rfl rfl (rest := []) rfl (Nat.le_of_ble_eq_true rfl) ⟨Nat.le_of_ble_eq_true rfl, Nat.le_of_ble_eq_true rfl⟩ dL_law_213 rfl (st' := [.int (g_capacity cap (xs (n + 1)))]) rfl (ws' := mW h2 q2 dZ dB cap clo one two ++ gW h q dZ dB cap clo use len set par que) rfl ?_
  refine j_aload_n C 2 rfl rfl dL_law_216 rfl ?_
  refine j_aload_n C 0 rfl rfl dL_law_217 rfl ?_
  refine j_iload_n C 3 rfl rfl dL_law_218 rfl ?_
  refine j_iconst C 1 dL_law_219 (by decide) rfl ?_
  refine j_iadd C dL_law_220 rfl ?_
  refine j_top (nI_1 n) ?_
  refine j_sld C hX (k := n + 1) (by omega) dL_law_221 rfl ?_
  refine j_callP C [0, 1, 2, 3, 4] [5, 6, 7, 8, 9, 10, 11, 12] (met_X1_capacity l D h2 q2 dZ dB cap clo one two (xs (n + 1))) (wr := gW h q dZ dB cap clo use len set par que) rfl rfl rfl rfl rfl (by decide) q199 q200 q201 q16 q202 ds_X1_capacity ⟨rfl, rfl⟩ ⟨Nat.le_of_ble_eq_true rfl, Nat.le_of_ble_eq_true rfl⟩ rfl rfl rfl rfl (rest := [.int (g_capacity cap (xs (n + 1)))]) rfl (Nat.le_of_ble_eq_true rfl) ⟨Nat.le_of_ble_eq_true rfl, Nat.le_of_ble_eq_true rfl⟩ dL_law_222 rfl (st' := [.int (m_capacity cap (xs (n + 1))), .int (g_capacity cap (xs (n + 1)))]) rfl (ws' := gW h q dZ dB cap clo use len set par que ++ mW h2 q2 dZ dB cap clo one two) rfl ?_
  rw [capacity_eq]
  refine j_icmp_eq C 473 dL_law_225 (by decide) rfl (fun _ => ?_) (fun c_1 => absurd rfl c_1)
  exact K _ _ _ _ _ _ _ hc hz
set_option maxHeartbeats 4000000 in
theorem law_between {p : Program} {l : Launch} {e : Env} {s : State} {m : MethodId} {args : Array Value} {below : List Frame} {meth : Method} {c : Code} {D : va_G} {A : Nat → Prop} {Q : State → Prop} {b L h h2 : Nat} {xs : Nat → Int32} {q q2 : Nat → Nat} {dZ dB : ClassId} {one two : Nat → Int32} {n : Nat} {cap clo use len set par que : Nat → Int32} (C : Cx p s m args meth c cL_law 4 "GridDualsLaw" (some .boolean) D (tyZ dZ dB) A) (hX : Scr s A b L xs) (ho : OTw one two) (hn : n + 3 ≤ L) (hc : Cb cap 20) (hz : Zb clo) (K : ∀ cap clo use len set par que, Cb cap 20 → Zb clo → J p l e room_1 s m args below meth c D A 4 13 170 Q (gW h q dZ dB cap clo use len set par que ++ mW h2 q2 dZ dB cap clo one two) 473 [(0, .ref b), (1, .ref h), (2, .ref h2), (3, .int (nI n))] []) : J p l e room_1 s m args below meth c D A 4 13 170 Q (gW h q dZ dB cap clo use len set par que ++ mW h2 q2 dZ dB cap clo one two) 230 [(0, .ref b), (1, .ref h), (2, .ref h2), (3, .int (nI n))] [] := by
  refine j_aload_n C 1 rfl rfl dL_law_230 rfl ?_
  refine j_aload_n C 0 rfl rfl dL_law_231 rfl ?_
  refine j_iload_n C 3 rfl rfl dL_law_232 rfl ?_
  refine j_iconst C 1 dL_law_233 (by decide) rfl ?_
  refine j_iadd C dL_law_234 rfl ?_
  refine j_top (nI_1 n) ?_
  refine j_sld C hX (k := n + 1) (by omega) dL_law_235 rfl ?_
  refine j_aload_n C 0 rfl rfl dL_law_236 rfl ?_
  refine j_iload_n C 3 rfl rfl dL_law_237 rfl ?_
  refine j_iconst C 2 dL_law_238 (by decide) rfl ?_
  refine j_iadd C dL_law_239 rfl ?_
  refine j_top (nI_2 n) ?_
  refine j_sld C hX (k := n + 2) (by omega) dL_law_240 rfl ?_
  refine j_callP C [0, 1, 2, 3, 4, 5, 6, 7] [8, 9, 10, 11, 12] (met_X0_between l D h q dZ dB cap clo use len set par que (xs (n + 1)) (xs (n + 2))) (wr := mW h2 q2 dZ dB cap clo one two) rfl rfl rfl rfl rfl (by decide) q68 q69 q70 q15 q71 ds_X0_between ⟨rfl, rfl⟩ ⟨Nat.le_of_ble_eq_true rfl, Nat.le_of_ble_eq_true rfl⟩ rfl rfl rfl rfl (rest := []) rfl (Nat.le_of_ble_eq_true rfl) ⟨Nat.le_of_ble_eq_true rfl, Nat.le_of_ble_eq_true rfl⟩ dL_law_241 rfl (st' := [.int (g_between (xs (n + 1)) (xs (n + 2)))]) rfl (ws' := mW h2 q2 dZ dB cap clo one two ++ gW h q dZ dB cap clo use len set par que) rfl ?_
  refine j_aload_n C 2 rfl rfl dL_law_244 rfl ?_
  refine j_aload_n C 0 rfl rfl dL_law_245 rfl ?_
  refine j_iload_n C 3 rfl rfl dL_law_246 rfl ?_
  refine j_iconst C 1 dL_law_247 (by decide) rfl ?_
  refine j_iadd C dL_law_248 rfl ?_
  refine j_top (nI_1 n) ?_
  refine j_sld C hX (k := n + 1) (by omega) dL_law_249 rfl ?_
  refine j_aload_n C 0 rfl rfl dL_law_250 rfl ?_
  refine j_iload_n C 3 rfl rfl dL_law_251 rfl ?_
  refine j_iconst C 2 dL_law_252 (by decide) rfl ?_
  refine j_iadd C dL_law_253 rfl ?_
  refine j_top (nI_2 n) ?_
  refine j_sld C hX (k := n + 2) (by omega) dL_law_254 rfl ?_
  refine j_callP C [0, 1, 2, 3, 4] [5, 6, 7, 8, 9, 10, 11, 12] (met_X1_between l D h2 q2 dZ dB cap clo one two (xs (n + 1)) (xs (n + 2))) (wr := gW h q dZ dB cap clo use len set par que) rfl rfl rfl rfl rfl (by decide) q203 q204 q205 q16 q206 ds_X1_between ⟨rfl, rfl⟩ ⟨Nat.le_of_ble_eq_true rfl, Nat.le_of_ble_eq_true rfl⟩ rfl rfl rfl rfl (rest := [.int (g_between (xs (n + 1)) (xs (n + 2)))]) rfl (Nat.le_of_ble_eq_true rfl) ⟨Nat.le_of_ble_eq_true rfl, Nat.le_of_ble_eq_true rfl⟩ dL_law_255 rfl (st' := [.int (m_between one two (xs (n + 1)) (xs (n + 2))), .int (g_between (xs (n + 1)) (xs (n + 2)))]) rfl (ws' := gW h q dZ dB cap clo use len set par que ++ mW h2 q2 dZ dB cap clo one two) rfl ?_
  rw [between_eq ho]
  refine j_icmp_eq C 473 dL_law_258 (by decide) rfl (fun _ => ?_) (fun c_1 => absurd rfl c_1)
  exact K _ _ _ _ _ _ _ hc hz
set_option maxHeartbeats 4000000 in
theorem law_flow {p : Program} {l : Launch} {e : Env} {s : State} {m : MethodId} {args : Array Value} {below : List Frame} {meth : Method} {c : Code} {D : va_G} {A : Nat → Prop} {Q : State → Prop} {b L h h2 : Nat} {xs : Nat → Int32} {q q2 : Nat → Nat} {dZ dB : ClassId} {one two : Nat → Int32} {n : Nat} {cap clo use len set par que : Nat → Int32} (C : Cx p s m args meth c cL_law 4 "GridDualsLaw" (some .boolean) D (tyZ dZ dB) A) (hX : Scr s A b L xs) (ho : OTw one two) (hn : n + 3 ≤ L) (hc : Cb cap 20) (hz : Zb clo) (K : ∀ cap clo use len set par que, Cb cap 20 → Zb clo → J p l e room_1 s m args below meth c D A 4 13 170 Q (gW h q dZ dB cap clo use len set par que ++ mW h2 q2 dZ dB cap clo one two) 473 [(0, .ref b), (1, .ref h), (2, .ref h2), (3, .int (nI n))] []) : J p l e room_1 s m args below meth c D A 4 13 170 Q (gW h q dZ dB cap clo use len set par que ++ mW h2 q2 dZ dB cap clo one two) 263 [(0, .ref b), (1, .ref h), (2, .ref h2), (3, .int (nI n))] [] := by
  refine j_aload_n C 1 rfl rfl dL_law_263 rfl ?_
  refine j_callP C [0, 1, 2, 3, 4, 5, 6, 7] [8, 9, 10, 11, 12] (met_X0_flow l D h q dZ dB cap clo use len set par que ) (wr := mW h2 q2 dZ dB cap clo one two) rfl rfl rfl rfl rfl (by decide) q81 q82 q83 q15 q84 ds_X0_flow ⟨rfl, rfl⟩ ⟨Nat.le_of_ble_eq_true rfl, Nat.le_of_ble_eq_true rfl⟩ rfl rfl rfl rfl (rest := []) rfl (Nat.le_of_ble_eq_true rfl) ⟨Nat.le_of_ble_eq_true rfl, Nat.le_of_ble_eq_true rfl⟩ dL_law_264 rfl (st' := [.int ((g_flow cap clo len set).1)]) rfl (ws' := mW h2 q2 dZ dB cap clo one two ++ gW h q dZ dB cap clo use ((g_flow cap clo len set).2.1) ((g_flow cap clo len set).2.2) par que) rfl ?_
  refine j_aload_n C 2 rfl rfl dL_law_267 rfl ?_
  refine j_callP C [0, 1, 2, 3, 4] [5, 6, 7, 8, 9, 10, 11, 12] (met_X1_flow l D h2 q2 dZ dB cap clo one two ) (wr := gW h q dZ dB cap clo use ((g_flow cap clo len set).2.1) ((g_flow cap clo len set).2.2) par que) rfl rfl rfl rfl rfl (by decide) q211 q212 q213 q16 q214 ds_X1_flow ⟨rfl, rfl⟩ ⟨Nat.le_of_ble_eq_true rfl, Nat.le_of_ble_eq_true rfl⟩ rfl rfl rfl rfl (rest := [.int ((g_flow cap clo len set).1)]) rfl (Nat.le_of_ble_eq_true rfl) ⟨Nat.le_of_ble_eq_true rfl, Nat.le_of_ble_eq_true rfl⟩ dL_law_268 rfl (st' := [.int (m_flow cap clo one two), .int ((g_flow cap clo len set).1)]) rfl (ws' := gW h q dZ dB cap clo use ((g_flow cap clo len set).2.1) ((g_flow cap clo len set).2.2) par que ++ mW h2 q2 dZ dB cap clo one two) rfl ?_
  rw [show (g_flow cap clo len set).1 = m_flow cap clo one two from flow_eq ho (Rb_mono (Cb_Rb (by decide) hc clo)) len set]
  refine j_icmp_eq C 473 dL_law_271 (by decide) rfl (fun _ => ?_) (fun c_1 => absurd rfl c_1)
  exact K _ _ _ _ _ _ _ hc hz
set_option maxHeartbeats 4000000 in
theorem law_weight {p : Program} {l : Launch} {e : Env} {s : State} {m : MethodId} {args : Array Value} {below : List Frame} {meth : Method} {c : Code} {D : va_G} {A : Nat → Prop} {Q : State → Prop} {b L h h2 : Nat} {xs : Nat → Int32} {q q2 : Nat → Nat} {dZ dB : ClassId} {one two : Nat → Int32} {n : Nat} {cap clo use len set par que : Nat → Int32} (C : Cx p s m args meth c cL_law 4 "GridDualsLaw" (some .boolean) D (tyZ dZ dB) A) (hX : Scr s A b L xs) (ho : OTw one two) (hn : n + 3 ≤ L) (hc : Cb cap 20) (hz : Zb clo) (K : ∀ cap clo use len set par que, Cb cap 20 → Zb clo → J p l e room_1 s m args below meth c D A 4 13 170 Q (gW h q dZ dB cap clo use len set par que ++ mW h2 q2 dZ dB cap clo one two) 473 [(0, .ref b), (1, .ref h), (2, .ref h2), (3, .int (nI n))] []) : J p l e room_1 s m args below meth c D A 4 13 170 Q (gW h q dZ dB cap clo use len set par que ++ mW h2 q2 dZ dB cap clo one two) 276 [(0, .ref b), (1, .ref h), (2, .ref h2), (3, .int (nI n))] [] := by
  refine j_aload_n C 1 rfl rfl dL_law_276 rfl ?_
  refine j_aload_n C 0 rfl rfl dL_law_277 rfl ?_
  refine j_iload_n C 3 rfl rfl dL_law_278 rfl ?_
  refine j_iconst C 1 dL_law_279 (by decide) rfl ?_
  refine j_iadd C dL_law_280 rfl ?_
  refine j_top (nI_1 n) ?_
  refine j_sld C hX (k := n + 1) (by omega) dL_law_281 rfl ?_
  refine j_callP C [0, 1, 2, 3, 4, 5, 6, 7] [8, 9, 10, 11, 12] (met_X0_weight l D h q dZ dB cap clo use len set par que (xs (n + 1))) (wr := mW h2 q2 dZ dB cap clo one two) rfl rfl rfl rfl rfl (by decide) q104 q105 q106 q15 q107 ds_X0_weight ⟨rfl, rfl⟩ ⟨Nat.le_of_ble_eq_true rfl, Nat.le_of_ble_eq_true rfl⟩ rfl rfl rfl rfl (rest := []) rfl (Nat.le_of_ble_eq_true rfl) ⟨Nat.le_of_ble_eq_true rfl, Nat.le_of_ble_eq_true rfl⟩ dL_law_282 rfl (st' := [.int (g_weight cap clo (xs (n + 1)))]) rfl (ws' := mW h2 q2 dZ dB cap clo one two ++ gW h q dZ dB cap clo use len set par que) rfl ?_
  refine j_aload_n C 2 rfl rfl dL_law_285 rfl ?_
  refine j_aload_n C 0 rfl rfl dL_law_286 rfl ?_
  refine j_iload_n C 3 rfl rfl dL_law_287 rfl ?_
  refine j_iconst C 1 dL_law_288 (by decide) rfl ?_
  refine j_iadd C dL_law_289 rfl ?_
  refine j_top (nI_1 n) ?_
  refine j_sld C hX (k := n + 1) (by omega) dL_law_290 rfl ?_
  refine j_callP C [0, 1, 2, 3, 4] [5, 6, 7, 8, 9, 10, 11, 12] (met_X1_weight l D h2 q2 dZ dB cap clo one two (xs (n + 1))) (wr := gW h q dZ dB cap clo use len set par que) rfl rfl rfl rfl rfl (by decide) q227 q228 q229 q16 q230 ds_X1_weight ⟨rfl, rfl⟩ ⟨Nat.le_of_ble_eq_true rfl, Nat.le_of_ble_eq_true rfl⟩ rfl rfl rfl rfl (rest := [.int (g_weight cap clo (xs (n + 1)))]) rfl (Nat.le_of_ble_eq_true rfl) ⟨Nat.le_of_ble_eq_true rfl, Nat.le_of_ble_eq_true rfl⟩ dL_law_291 rfl (st' := [.int (m_weight cap clo one two (xs (n + 1))), .int (g_weight cap clo (xs (n + 1)))]) rfl (ws' := gW h q dZ dB cap clo use len set par que ++ mW h2 q2 dZ dB cap clo one two) rfl ?_
  rw [weight_eq ho]
  refine j_icmp_eq C 473 dL_law_294 (by decide) rfl (fun _ => ?_) (fun c_1 => absurd rfl c_1)
  exact K _ _ _ _ _ _ _ hc hz
set_option maxHeartbeats 4000000 in
theorem law_firstCut {p : Program} {l : Launch} {e : Env} {s : State} {m : MethodId} {args : Array Value} {below : List Frame} {meth : Method} {c : Code} {D : va_G} {A : Nat → Prop} {Q : State → Prop} {b L h h2 : Nat} {xs : Nat → Int32} {q q2 : Nat → Nat} {dZ dB : ClassId} {one two : Nat → Int32} {n : Nat} {cap clo use len set par que : Nat → Int32} (C : Cx p s m args meth c cL_law 4 "GridDualsLaw" (some .boolean) D (tyZ dZ dB) A) (hX : Scr s A b L xs) (ho : OTw one two) (hn : n + 3 ≤ L) (hc : Cb cap 20) (hz : Zb clo) (K : ∀ cap clo use len set par que, Cb cap 20 → Zb clo → J p l e room_1 s m args below meth c D A 4 13 170 Q (gW h q dZ dB cap clo use len set par que ++ mW h2 q2 dZ dB cap clo one two) 473 [(0, .ref b), (1, .ref h), (2, .ref h2), (3, .int (nI n))] []) : J p l e room_1 s m args below meth c D A 4 13 170 Q (gW h q dZ dB cap clo use len set par que ++ mW h2 q2 dZ dB cap clo one two) 299 [(0, .ref b), (1, .ref h), (2, .ref h2), (3, .int (nI n))] [] := by
  refine j_aload_n C 1 rfl rfl dL_law_299 rfl ?_
  refine j_callP C [0, 1, 2, 3, 4, 5, 6, 7] [8, 9, 10, 11, 12] (met_X0_firstCut l D h q dZ dB cap clo use len set par que ) (wr := mW h2 q2 dZ dB cap clo one two) rfl rfl rfl rfl rfl (by decide) q108 q109 q110 q15 q111 ds_X0_firstCut ⟨rfl, rfl⟩ ⟨Nat.le_of_ble_eq_true rfl, Nat.le_of_ble_eq_true rfl⟩ rfl rfl rfl rfl (rest := []) rfl (Nat.le_of_ble_eq_true rfl) ⟨Nat.le_of_ble_eq_true rfl, Nat.le_of_ble_eq_true rfl⟩ dL_law_300 rfl (st' := [.int ((g_firstCut cap clo use par que).1)]) rfl (ws' := mW h2 q2 dZ dB cap clo one two ++ gW h q dZ dB cap clo ((g_firstCut cap clo use par que).2.1) len set ((g_firstCut cap clo use par que).2.2.1) ((g_firstCut cap clo use par que).2.2.2)) rfl ?_
  refine j_aload_n C 2 rfl rfl dL_law_303 rfl ?_
  refine j_callP C [0, 1, 2, 3, 4] [5, 6, 7, 8, 9, 10, 11, 12] (met_X1_firstCut l D h2 q2 dZ dB cap clo one two ) (wr := gW h q dZ dB cap clo ((g_firstCut cap clo use par que).2.1) len set ((g_firstCut cap clo use par que).2.2.1) ((g_firstCut cap clo use par que).2.2.2)) rfl rfl rfl rfl rfl (by decide) q231 q232 q233 q16 q234 ds_X1_firstCut ⟨rfl, rfl⟩ ⟨Nat.le_of_ble_eq_true rfl, Nat.le_of_ble_eq_true rfl⟩ rfl rfl rfl rfl (rest := [.int ((g_firstCut cap clo use par que).1)]) rfl (Nat.le_of_ble_eq_true rfl) ⟨Nat.le_of_ble_eq_true rfl, Nat.le_of_ble_eq_true rfl⟩ dL_law_304 rfl (st' := [.int (m_firstCut cap clo one two), .int ((g_firstCut cap clo use par que).1)]) rfl (ws' := gW h q dZ dB cap clo ((g_firstCut cap clo use par que).2.1) len set ((g_firstCut cap clo use par que).2.2.1) ((g_firstCut cap clo use par que).2.2.2) ++ mW h2 q2 dZ dB cap clo one two) rfl ?_
  rw [show (g_firstCut cap clo use par que).1 = m_firstCut cap clo one two from first_eq ho (Cb_Rb (by decide) hc clo) use par que]
  refine j_icmp_eq C 473 dL_law_307 (by decide) rfl (fun _ => ?_) (fun c_1 => absurd rfl c_1)
  exact K _ _ _ _ _ _ _ hc hz
set_option maxHeartbeats 4000000 in
theorem law_lastCut {p : Program} {l : Launch} {e : Env} {s : State} {m : MethodId} {args : Array Value} {below : List Frame} {meth : Method} {c : Code} {D : va_G} {A : Nat → Prop} {Q : State → Prop} {b L h h2 : Nat} {xs : Nat → Int32} {q q2 : Nat → Nat} {dZ dB : ClassId} {one two : Nat → Int32} {n : Nat} {cap clo use len set par que : Nat → Int32} (C : Cx p s m args meth c cL_law 4 "GridDualsLaw" (some .boolean) D (tyZ dZ dB) A) (hX : Scr s A b L xs) (ho : OTw one two) (hn : n + 3 ≤ L) (hc : Cb cap 20) (hz : Zb clo) (K : ∀ cap clo use len set par que, Cb cap 20 → Zb clo → J p l e room_1 s m args below meth c D A 4 13 170 Q (gW h q dZ dB cap clo use len set par que ++ mW h2 q2 dZ dB cap clo one two) 473 [(0, .ref b), (1, .ref h), (2, .ref h2), (3, .int (nI n))] []) : J p l e room_1 s m args below meth c D A 4 13 170 Q (gW h q dZ dB cap clo use len set par que ++ mW h2 q2 dZ dB cap clo one two) 312 [(0, .ref b), (1, .ref h), (2, .ref h2), (3, .int (nI n))] [] := by
  refine j_aload_n C 1 rfl rfl dL_law_312 rfl ?_
  refine j_callP C [0, 1, 2, 3, 4, 5, 6, 7] [8, 9, 10, 11, 12] (met_X0_lastCut l D h q dZ dB cap clo use len set par que ) (wr := mW h2 q2 dZ dB cap clo one two) rfl rfl rfl rfl rfl (by decide) q135 q136 q137 q15 q138 ds_X0_lastCut ⟨rfl, rfl⟩ ⟨Nat.le_of_ble_eq_true rfl, Nat.le_of_ble_eq_true rfl⟩ rfl rfl rfl rfl (rest := []) rfl (Nat.le_of_ble_eq_true rfl) ⟨Nat.le_of_ble_eq_true rfl, Nat.le_of_ble_eq_true rfl⟩ dL_law_313 rfl (st' := [.int ((g_lastCut cap clo use par que).1)]) rfl (ws' := mW h2 q2 dZ dB cap clo one two ++ gW h q dZ dB cap clo ((g_lastCut cap clo use par que).2.1) len set ((g_lastCut cap clo use par que).2.2.1) ((g_lastCut cap clo use par que).2.2.2)) rfl ?_
  refine j_aload_n C 2 rfl rfl dL_law_316 rfl ?_
  refine j_callP C [0, 1, 2, 3, 4] [5, 6, 7, 8, 9, 10, 11, 12] (met_X1_lastCut l D h2 q2 dZ dB cap clo one two ) (wr := gW h q dZ dB cap clo ((g_lastCut cap clo use par que).2.1) len set ((g_lastCut cap clo use par que).2.2.1) ((g_lastCut cap clo use par que).2.2.2)) rfl rfl rfl rfl rfl (by decide) q239 q240 q241 q16 q242 ds_X1_lastCut ⟨rfl, rfl⟩ ⟨Nat.le_of_ble_eq_true rfl, Nat.le_of_ble_eq_true rfl⟩ rfl rfl rfl rfl (rest := [.int ((g_lastCut cap clo use par que).1)]) rfl (Nat.le_of_ble_eq_true rfl) ⟨Nat.le_of_ble_eq_true rfl, Nat.le_of_ble_eq_true rfl⟩ dL_law_317 rfl (st' := [.int (m_lastCut cap clo one two), .int ((g_lastCut cap clo use par que).1)]) rfl (ws' := gW h q dZ dB cap clo ((g_lastCut cap clo use par que).2.1) len set ((g_lastCut cap clo use par que).2.2.1) ((g_lastCut cap clo use par que).2.2.2) ++ mW h2 q2 dZ dB cap clo one two) rfl ?_
  rw [last_eq ho (Cb_Rb (by decide) hc clo) use par que]
  refine j_icmp_eq C 473 dL_law_320 (by decide) rfl (fun _ => ?_) (fun c_1 => absurd rfl c_1)
  exact K _ _ _ _ _ _ _ hc hz
set_option maxHeartbeats 4000000 in
theorem law_leastWith {p : Program} {l : Launch} {e : Env} {s : State} {m : MethodId} {args : Array Value} {below : List Frame} {meth : Method} {c : Code} {D : va_G} {A : Nat → Prop} {Q : State → Prop} {b L h h2 : Nat} {xs : Nat → Int32} {q q2 : Nat → Nat} {dZ dB : ClassId} {one two : Nat → Int32} {n : Nat} {cap clo use len set par que : Nat → Int32} (C : Cx p s m args meth c cL_law 4 "GridDualsLaw" (some .boolean) D (tyZ dZ dB) A) (hX : Scr s A b L xs) (ho : OTw one two) (hn : n + 3 ≤ L) (hc : Cb cap 20) (hz : Zb clo) (K : ∀ cap clo use len set par que, Cb cap 20 → Zb clo → J p l e room_1 s m args below meth c D A 4 13 170 Q (gW h q dZ dB cap clo use len set par que ++ mW h2 q2 dZ dB cap clo one two) 473 [(0, .ref b), (1, .ref h), (2, .ref h2), (3, .int (nI n))] []) : J p l e room_1 s m args below meth c D A 4 13 170 Q (gW h q dZ dB cap clo use len set par que ++ mW h2 q2 dZ dB cap clo one two) 325 [(0, .ref b), (1, .ref h), (2, .ref h2), (3, .int (nI n))] [] := by
  refine j_aload_n C 1 rfl rfl dL_law_325 rfl ?_
  refine j_aload_n C 0 rfl rfl dL_law_326 rfl ?_
  refine j_iload_n C 3 rfl rfl dL_law_327 rfl ?_
  refine j_iconst C 1 dL_law_328 (by decide) rfl ?_
  refine j_iadd C dL_law_329 rfl ?_
  refine j_top (nI_1 n) ?_
  refine j_sld C hX (k := n + 1) (by omega) dL_law_330 rfl ?_
  refine j_callP C [0, 1, 2, 3, 4, 5, 6, 7] [8, 9, 10, 11, 12] (met_X0_leastWith l D h q dZ dB cap clo use len set par que (xs (n + 1))) (wr := mW h2 q2 dZ dB cap clo one two) rfl rfl rfl rfl rfl (by decide) q139 q140 q141 q15 q142 ds_X0_leastWith ⟨rfl, rfl⟩ ⟨Nat.le_of_ble_eq_true rfl, Nat.le_of_ble_eq_true rfl⟩ rfl rfl rfl rfl (rest := []) rfl (Nat.le_of_ble_eq_true rfl) ⟨Nat.le_of_ble_eq_true rfl, Nat.le_of_ble_eq_true rfl⟩ dL_law_331 rfl (st' := [.int ((g_leastWith cap clo use par que (xs (n + 1))).1)]) rfl (ws' := mW h2 q2 dZ dB cap clo one two ++ gW h q dZ dB cap clo ((g_leastWith cap clo use par que (xs (n + 1))).2.1) len set ((g_leastWith cap clo use par que (xs (n + 1))).2.2.1) ((g_leastWith cap clo use par que (xs (n + 1))).2.2.2)) rfl ?_
  refine j_aload_n C 2 rfl rfl dL_law_334 rfl ?_
  refine j_aload_n C 0 rfl rfl dL_law_335 rfl ?_
  refine j_iload_n C 3 rfl rfl dL_law_336 rfl ?_
  refine j_iconst C 1 dL_law_337 (by decide) rfl ?_
  refine j_iadd C dL_law_338 rfl ?_
  refine j_top (nI_1 n) ?_
  refine j_sld C hX (k := n + 1) (by omega) dL_law_339 rfl ?_
  refine j_callP C [0, 1, 2, 3, 4] [5, 6, 7, 8, 9, 10, 11, 12] (met_X1_leastWith l D h2 q2 dZ dB cap clo one two (xs (n + 1))) (wr := gW h q dZ dB cap clo ((g_leastWith cap clo use par que (xs (n + 1))).2.1) len set ((g_leastWith cap clo use par que (xs (n + 1))).2.2.1) ((g_leastWith cap clo use par que (xs (n + 1))).2.2.2)) rfl rfl rfl rfl rfl (by decide) q243 q244 q245 q16 q246 ds_X1_leastWith ⟨rfl, rfl⟩ ⟨Nat.le_of_ble_eq_true rfl, Nat.le_of_ble_eq_true rfl⟩ rfl rfl rfl rfl (rest := [.int ((g_leastWith cap clo use par que (xs (n + 1))).1)]) rfl (Nat.le_of_ble_eq_true rfl) ⟨Nat.le_of_ble_eq_true rfl, Nat.le_of_ble_eq_true rfl⟩ dL_law_340 rfl (st' := [.int (m_leastWith cap clo one two (xs (n + 1))), .int ((g_leastWith cap clo use par que (xs (n + 1))).1)]) rfl (ws' := gW h q dZ dB cap clo ((g_leastWith cap clo use par que (xs (n + 1))).2.1) len set ((g_leastWith cap clo use par que (xs (n + 1))).2.2.1) ((g_leastWith cap clo use par que (xs (n + 1))).2.2.2) ++ mW h2 q2 dZ dB cap clo one two) rfl ?_
  rw [with_eq ho (Cb_Rb (by decide) hc clo) use par que]
  refine j_icmp_eq C 473 dL_law_343 (by decide) rfl (fun _ => ?_) (fun c_1 => absurd rfl c_1)
  exact K _ _ _ _ _ _ _ hc hz
set_option maxHeartbeats 4000000 in
theorem law_leastWithout {p : Program} {l : Launch} {e : Env} {s : State} {m : MethodId} {args : Array Value} {below : List Frame} {meth : Method} {c : Code} {D : va_G} {A : Nat → Prop} {Q : State → Prop} {b L h h2 : Nat} {xs : Nat → Int32} {q q2 : Nat → Nat} {dZ dB : ClassId} {one two : Nat → Int32} {n : Nat} {cap clo use len set par que : Nat → Int32} (C : Cx p s m args meth c cL_law 4 "GridDualsLaw" (some .boolean) D (tyZ dZ dB) A) (hX : Scr s A b L xs) (ho : OTw one two) (hn : n + 3 ≤ L) (hc : Cb cap 20) (hz : Zb clo) (K : ∀ cap clo use len set par que, Cb cap 20 → Zb clo → J p l e room_1 s m args below meth c D A 4 13 170 Q (gW h q dZ dB cap clo use len set par que ++ mW h2 q2 dZ dB cap clo one two) 473 [(0, .ref b), (1, .ref h), (2, .ref h2), (3, .int (nI n))] []) : J p l e room_1 s m args below meth c D A 4 13 170 Q (gW h q dZ dB cap clo use len set par que ++ mW h2 q2 dZ dB cap clo one two) 348 [(0, .ref b), (1, .ref h), (2, .ref h2), (3, .int (nI n))] [] := by
  refine j_aload_n C 1 rfl rfl dL_law_348 rfl ?_
  refine j_aload_n C 0 rfl rfl dL_law_349 rfl ?_
  refine j_iload_n C 3 rfl rfl dL_law_350 rfl ?_
  refine j_iconst C 1 dL_law_351 (by decide) rfl ?_
  refine j_iadd C dL_law_352 rfl ?_
  refine j_top (nI_1 n) ?_
  refine j_sld C hX (k := n + 1) (by omega) dL_law_353 rfl ?_
  refine j_callP C [0, 1, 2, 3, 4, 5, 6, 7] [8, 9, 10, 11, 12] (met_X0_leastWithout l D h q dZ dB cap clo use len set par que (xs (n + 1))) (wr := mW h2 q2 dZ dB cap clo one two) rfl rfl rfl rfl rfl (by decide) q143 q144 q145 q15 q146 ds_X0_leastWithout ⟨rfl, rfl⟩ ⟨Nat.le_of_ble_eq_true rfl, Nat.le_of_ble_eq_true rfl⟩ rfl rfl rfl rfl (rest := []) rfl (Nat.le_of_ble_eq_true rfl) ⟨Nat.le_of_ble_eq_true rfl, Nat.le_of_ble_eq_true rfl⟩ dL_law_354 rfl (st' := [.int ((g_leastWithout cap clo use par que (xs (n + 1))).1)]) rfl (ws' := mW h2 q2 dZ dB cap clo one two ++ gW h q dZ dB cap clo ((g_leastWithout cap clo use par que (xs (n + 1))).2.1) len set ((g_leastWithout cap clo use par que (xs (n + 1))).2.2.1) ((g_leastWithout cap clo use par que (xs (n + 1))).2.2.2)) rfl ?_
  refine j_aload_n C 2 rfl rfl dL_law_357 rfl ?_
  refine j_aload_n C 0 rfl rfl dL_law_358 rfl ?_
  refine j_iload_n C 3 rfl rfl dL_law_359 rfl ?_
  refine j_iconst C 1 dL_law_360 (by decide) rfl ?_
  refine j_iadd C dL_law_361 rfl ?_
  refine j_top (nI_1 n) ?_
  refine j_sld C hX (k := n + 1) (by omega) dL_law_362 rfl ?_
  refine j_callP C [0, 1, 2, 3, 4] [5, 6, 7, 8, 9, 10, 11, 12] (met_X1_leastWithout l D h2 q2 dZ dB cap clo one two (xs (n + 1))) (wr := gW h q dZ dB cap clo ((g_leastWithout cap clo use par que (xs (n + 1))).2.1) len set ((g_leastWithout cap clo use par que (xs (n + 1))).2.2.1) ((g_leastWithout cap clo use par que (xs (n + 1))).2.2.2)) rfl rfl rfl rfl rfl (by decide) q247 q248 q249 q16 q250 ds_X1_leastWithout ⟨rfl, rfl⟩ ⟨Nat.le_of_ble_eq_true rfl, Nat.le_of_ble_eq_true rfl⟩ rfl rfl rfl rfl (rest := [.int ((g_leastWithout cap clo use par que (xs (n + 1))).1)]) rfl (Nat.le_of_ble_eq_true rfl) ⟨Nat.le_of_ble_eq_true rfl, Nat.le_of_ble_eq_true rfl⟩ dL_law_363 rfl (st' := [.int (m_leastWithout cap clo one two (xs (n + 1))), .int ((g_leastWithout cap clo use par que (xs (n + 1))).1)]) rfl (ws' := gW h q dZ dB cap clo ((g_leastWithout cap clo use par que (xs (n + 1))).2.1) len set ((g_leastWithout cap clo use par que (xs (n + 1))).2.2.1) ((g_leastWithout cap clo use par que (xs (n + 1))).2.2.2) ++ mW h2 q2 dZ dB cap clo one two) rfl ?_
  rw [without_eq ho (Cb_Rb (by decide) hc clo) use par que]
  refine j_icmp_eq C 473 dL_law_366 (by decide) rfl (fun _ => ?_) (fun c_1 => absurd rfl c_1)
  exact K _ _ _ _ _ _ _ hc hz
set_option maxHeartbeats 4000000 in
theorem law_loss {p : Program} {l : Launch} {e : Env} {s : State} {m : MethodId} {args : Array Value} {below : List Frame} {meth : Method} {c : Code} {D : va_G} {A : Nat → Prop} {Q : State → Prop} {b L h h2 : Nat} {xs : Nat → Int32} {q q2 : Nat → Nat} {dZ dB : ClassId} {one two : Nat → Int32} {n : Nat} {cap clo use len set par que : Nat → Int32} (C : Cx p s m args meth c cL_law 4 "GridDualsLaw" (some .boolean) D (tyZ dZ dB) A) (hX : Scr s A b L xs) (ho : OTw one two) (hn : n + 3 ≤ L) (hc : Cb cap 20) (hz : Zb clo) (K : ∀ cap clo use len set par que, Cb cap 20 → Zb clo → J p l e room_1 s m args below meth c D A 4 13 170 Q (gW h q dZ dB cap clo use len set par que ++ mW h2 q2 dZ dB cap clo one two) 473 [(0, .ref b), (1, .ref h), (2, .ref h2), (3, .int (nI n))] []) : J p l e room_1 s m args below meth c D A 4 13 170 Q (gW h q dZ dB cap clo use len set par que ++ mW h2 q2 dZ dB cap clo one two) 371 [(0, .ref b), (1, .ref h), (2, .ref h2), (3, .int (nI n))] [] := by
  refine j_aload_n C 1 rfl rfl dL_law_371 rfl ?_
  refine j_aload_n C 0 rfl rfl dL_law_372 rfl ?_
  refine j_iload_n C 3 rfl rfl dL_law_373 rfl ?_
  refine j_iconst C 1 dL_law_374 (by decide) rfl ?_
  refine j_iadd C dL_law_375 rfl ?_
  refine j_top (nI_1 n) ?_
  refine j_sld C hX (k := n + 1) (by omega) dL_law_376 rfl ?_
  refine j_callP C [0, 1, 2, 3, 4, 5, 6, 7] [8, 9, 10, 11, 12] (met_X0_loss l D h q dZ dB cap clo use len set par que (xs (n + 1)) (Zb_nar hz)) (wr := mW h2 q2 dZ dB cap clo one two) rfl rfl rfl rfl rfl (by decide) q147 q148 q149 q15 q150 ds_X0_loss ⟨rfl, rfl⟩ ⟨Nat.le_of_ble_eq_true rfl, Nat.le_of_ble_eq_true rfl⟩ rfl rfl rfl rfl (rest := []) rfl (Nat.le_of_ble_eq_true rfl) ⟨Nat.le_of_ble_eq_true rfl, Nat.le_of_ble_eq_true rfl⟩ dL_law_377 rfl (st' := [.int ((g_loss cap clo len set (xs (n + 1))).1)]) rfl (ws' := mW h2 q2 dZ dB cap clo one two ++ gW h q dZ dB cap ((g_loss cap clo len set (xs (n + 1))).2.1) use ((g_loss cap clo len set (xs (n + 1))).2.2.1) ((g_loss cap clo len set (xs (n + 1))).2.2.2) par que) rfl ?_
  refine j_aload_n C 2 rfl rfl dL_law_380 rfl ?_
  refine j_aload_n C 0 rfl rfl dL_law_381 rfl ?_
  refine j_iload_n C 3 rfl rfl dL_law_382 rfl ?_
  refine j_iconst C 1 dL_law_383 (by decide) rfl ?_
  refine j_iadd C dL_law_384 rfl ?_
  refine j_top (nI_1 n) ?_
  refine j_sld C hX (k := n + 1) (by omega) dL_law_385 rfl ?_
  refine j_callP C [0, 1, 2, 3, 4] [5, 6, 7, 8, 9, 10, 11, 12] (met_X1_loss l D h2 q2 dZ dB cap clo one two (xs (n + 1)) (Zb_nar hz)) (wr := gW h q dZ dB cap ((g_loss cap clo len set (xs (n + 1))).2.1) use ((g_loss cap clo len set (xs (n + 1))).2.2.1) ((g_loss cap clo len set (xs (n + 1))).2.2.2) par que) rfl rfl rfl rfl rfl (by decide) q251 q252 q253 q16 q254 ds_X1_loss ⟨rfl, rfl⟩ ⟨Nat.le_of_ble_eq_true rfl, Nat.le_of_ble_eq_true rfl⟩ rfl rfl rfl rfl (rest := [.int ((g_loss cap clo len set (xs (n + 1))).1)]) rfl (Nat.le_of_ble_eq_true rfl) ⟨Nat.le_of_ble_eq_true rfl, Nat.le_of_ble_eq_true rfl⟩ dL_law_386 rfl (st' := [.int ((m_loss cap clo one two (xs (n + 1))).1), .int ((g_loss cap clo len set (xs (n + 1))).1)]) rfl (ws' := gW h q dZ dB cap ((g_loss cap clo len set (xs (n + 1))).2.1) use ((g_loss cap clo len set (xs (n + 1))).2.2.1) ((g_loss cap clo len set (xs (n + 1))).2.2.2) par que ++ mW h2 q2 dZ dB cap ((m_loss cap clo one two (xs (n + 1))).2) one two) rfl ?_
  obtain ⟨e1, e2, e3⟩ := loss_eq (clo := clo) ho hc len set (xs (n + 1))
  rw [e1, e2, e3]
  refine j_icmp_eq C 473 dL_law_389 (by decide) rfl (fun _ => ?_) (fun c_1 => absurd rfl c_1)
  exact K _ _ _ _ _ _ _ hc hz
set_option maxHeartbeats 4000000 in
theorem law_gain {p : Program} {l : Launch} {e : Env} {s : State} {m : MethodId} {args : Array Value} {below : List Frame} {meth : Method} {c : Code} {D : va_G} {A : Nat → Prop} {Q : State → Prop} {b L h h2 : Nat} {xs : Nat → Int32} {q q2 : Nat → Nat} {dZ dB : ClassId} {one two : Nat → Int32} {n : Nat} {cap clo use len set par que : Nat → Int32} (C : Cx p s m args meth c cL_law 4 "GridDualsLaw" (some .boolean) D (tyZ dZ dB) A) (hX : Scr s A b L xs) (ho : OTw one two) (hn : n + 3 ≤ L) (hc : Cb cap 20) (hz : Zb clo) (K : ∀ cap clo use len set par que, Cb cap 20 → Zb clo → J p l e room_1 s m args below meth c D A 4 13 170 Q (gW h q dZ dB cap clo use len set par que ++ mW h2 q2 dZ dB cap clo one two) 473 [(0, .ref b), (1, .ref h), (2, .ref h2), (3, .int (nI n))] []) : J p l e room_1 s m args below meth c D A 4 13 170 Q (gW h q dZ dB cap clo use len set par que ++ mW h2 q2 dZ dB cap clo one two) 394 [(0, .ref b), (1, .ref h), (2, .ref h2), (3, .int (nI n))] [] := by
  refine j_aload_n C 1 rfl rfl dL_law_394 rfl ?_
  refine j_aload_n C 0 rfl rfl dL_law_395 rfl ?_
  refine j_iload_n C 3 rfl rfl dL_law_396 rfl ?_
  refine j_iconst C 1 dL_law_397 (by decide) rfl ?_
  refine j_iadd C dL_law_398 rfl ?_
  refine j_top (nI_1 n) ?_
  refine j_sld C hX (k := n + 1) (by omega) dL_law_399 rfl ?_
  refine j_aload_n C 0 rfl rfl dL_law_400 rfl ?_
  refine j_iload_n C 3 rfl rfl dL_law_401 rfl ?_
  refine j_iconst C 2 dL_law_402 (by decide) rfl ?_
  refine j_iadd C dL_law_403 rfl ?_
  refine j_top (nI_2 n) ?_
  refine j_sld C hX (k := n + 2) (by omega) dL_law_404 rfl ?_
  refine j_callP C [0, 1, 2, 3, 4, 5, 6, 7] [8, 9, 10, 11, 12] (met_X0_gain l D h q dZ dB cap clo use len set par que (xs (n + 1)) (xs (n + 2))) (wr := mW h2 q2 dZ dB cap clo one two) rfl rfl rfl rfl rfl (by decide) q151 q152 q153 q15 q154 ds_X0_gain ⟨rfl, rfl⟩ ⟨Nat.le_of_ble_eq_true rfl, Nat.le_of_ble_eq_true rfl⟩ rfl rfl rfl rfl (rest := []) rfl (Nat.le_of_ble_eq_true rfl) ⟨Nat.le_of_ble_eq_true rfl, Nat.le_of_ble_eq_true rfl⟩ dL_law_405 rfl (st' := [.int ((g_gain cap clo len set (xs (n + 1)) (xs (n + 2))).1)]) rfl (ws' := mW h2 q2 dZ dB cap clo one two ++ gW h q dZ dB ((g_gain cap clo len set (xs (n + 1)) (xs (n + 2))).2.1) clo use ((g_gain cap clo len set (xs (n + 1)) (xs (n + 2))).2.2.1) ((g_gain cap clo len set (xs (n + 1)) (xs (n + 2))).2.2.2) par que) rfl ?_
  refine j_aload_n C 2 rfl rfl dL_law_408 rfl ?_
  refine j_aload_n C 0 rfl rfl dL_law_409 rfl ?_
  refine j_iload_n C 3 rfl rfl dL_law_410 rfl ?_
  refine j_iconst C 1 dL_law_411 (by decide) rfl ?_
  refine j_iadd C dL_law_412 rfl ?_
  refine j_top (nI_1 n) ?_
  refine j_sld C hX (k := n + 1) (by omega) dL_law_413 rfl ?_
  refine j_aload_n C 0 rfl rfl dL_law_414 rfl ?_
  refine j_iload_n C 3 rfl rfl dL_law_415 rfl ?_
  refine j_iconst C 2 dL_law_416 (by decide) rfl ?_
  refine j_iadd C dL_law_417 rfl ?_
  refine j_top (nI_2 n) ?_
  refine j_sld C hX (k := n + 2) (by omega) dL_law_418 rfl ?_
  refine j_callP C [0, 1, 2, 3, 4] [5, 6, 7, 8, 9, 10, 11, 12] (met_X1_gain l D h2 q2 dZ dB cap clo one two (xs (n + 1)) (xs (n + 2))) (wr := gW h q dZ dB ((g_gain cap clo len set (xs (n + 1)) (xs (n + 2))).2.1) clo use ((g_gain cap clo len set (xs (n + 1)) (xs (n + 2))).2.2.1) ((g_gain cap clo len set (xs (n + 1)) (xs (n + 2))).2.2.2) par que) rfl rfl rfl rfl rfl (by decide) q255 q256 q257 q16 q258 ds_X1_gain ⟨rfl, rfl⟩ ⟨Nat.le_of_ble_eq_true rfl, Nat.le_of_ble_eq_true rfl⟩ rfl rfl rfl rfl (rest := [.int ((g_gain cap clo len set (xs (n + 1)) (xs (n + 2))).1)]) rfl (Nat.le_of_ble_eq_true rfl) ⟨Nat.le_of_ble_eq_true rfl, Nat.le_of_ble_eq_true rfl⟩ dL_law_419 rfl (st' := [.int ((m_gain cap clo one two (xs (n + 1)) (xs (n + 2))).1), .int ((g_gain cap clo len set (xs (n + 1)) (xs (n + 2))).1)]) rfl (ws' := gW h q dZ dB ((g_gain cap clo len set (xs (n + 1)) (xs (n + 2))).2.1) clo use ((g_gain cap clo len set (xs (n + 1)) (xs (n + 2))).2.2.1) ((g_gain cap clo len set (xs (n + 1)) (xs (n + 2))).2.2.2) par que ++ mW h2 q2 dZ dB ((m_gain cap clo one two (xs (n + 1)) (xs (n + 2))).2) clo one two) rfl ?_
  obtain ⟨e1, e2, e3⟩ := gain_eq (clo := clo) ho hc len set (xs (n + 1)) (xs (n + 2))
  rw [e1, e2, e3]
  refine j_icmp_eq C 473 dL_law_422 (by decide) rfl (fun _ => ?_) (fun c_1 => absurd rfl c_1)
  exact K _ _ _ _ _ _ _ hc hz
set_option maxHeartbeats 4000000 in
theorem law_way {p : Program} {l : Launch} {e : Env} {s : State} {m : MethodId} {args : Array Value} {below : List Frame} {meth : Method} {c : Code} {D : va_G} {A : Nat → Prop} {Q : State → Prop} {b L h h2 : Nat} {xs : Nat → Int32} {q q2 : Nat → Nat} {dZ dB : ClassId} {one two : Nat → Int32} {n : Nat} {cap clo use len set par que : Nat → Int32} (C : Cx p s m args meth c cL_law 4 "GridDualsLaw" (some .boolean) D (tyZ dZ dB) A) (hX : Scr s A b L xs) (ho : OTw one two) (hn : n + 3 ≤ L) (hc : Cb cap 20) (hz : Zb clo) (K : ∀ cap clo use len set par que, Cb cap 20 → Zb clo → J p l e room_1 s m args below meth c D A 4 13 170 Q (gW h q dZ dB cap clo use len set par que ++ mW h2 q2 dZ dB cap clo one two) 473 [(0, .ref b), (1, .ref h), (2, .ref h2), (3, .int (nI n))] []) : J p l e room_1 s m args below meth c D A 4 13 170 Q (gW h q dZ dB cap clo use len set par que ++ mW h2 q2 dZ dB cap clo one two) 427 [(0, .ref b), (1, .ref h), (2, .ref h2), (3, .int (nI n))] [] := by
  refine j_aload_n C 1 rfl rfl dL_law_427 rfl ?_
  refine j_aload_n C 0 rfl rfl dL_law_428 rfl ?_
  refine j_iload_n C 3 rfl rfl dL_law_429 rfl ?_
  refine j_iconst C 1 dL_law_430 (by decide) rfl ?_
  refine j_iadd C dL_law_431 rfl ?_
  refine j_top (nI_1 n) ?_
  refine j_sld C hX (k := n + 1) (by omega) dL_law_432 rfl ?_
  refine j_aload_n C 0 rfl rfl dL_law_433 rfl ?_
  refine j_iload_n C 3 rfl rfl dL_law_434 rfl ?_
  refine j_iconst C 2 dL_law_435 (by decide) rfl ?_
  refine j_iadd C dL_law_436 rfl ?_
  refine j_top (nI_2 n) ?_
  refine j_sld C hX (k := n + 2) (by omega) dL_law_437 rfl ?_
  refine j_callP C [0, 1, 2, 3, 4, 5, 6, 7] [8, 9, 10, 11, 12] (met_X0_way l D h q dZ dB cap clo use len set par que (xs (n + 1)) (xs (n + 2))) (wr := mW h2 q2 dZ dB cap clo one two) rfl rfl rfl rfl rfl (by decide) q155 q156 q157 q15 q158 ds_X0_way ⟨rfl, rfl⟩ ⟨Nat.le_of_ble_eq_true rfl, Nat.le_of_ble_eq_true rfl⟩ rfl rfl rfl rfl (rest := []) rfl (Nat.le_of_ble_eq_true rfl) ⟨Nat.le_of_ble_eq_true rfl, Nat.le_of_ble_eq_true rfl⟩ dL_law_438 rfl (st' := [.int ((g_way cap clo use (xs (n + 1)) (xs (n + 2))).1)]) rfl (ws' := mW h2 q2 dZ dB cap clo one two ++ gW h q dZ dB cap clo ((g_way cap clo use (xs (n + 1)) (xs (n + 2))).2) len set par que) rfl ?_
  refine j_aload_n C 2 rfl rfl dL_law_441 rfl ?_
  refine j_aload_n C 0 rfl rfl dL_law_442 rfl ?_
  refine j_iload_n C 3 rfl rfl dL_law_443 rfl ?_
  refine j_iconst C 1 dL_law_444 (by decide) rfl ?_
  refine j_iadd C dL_law_445 rfl ?_
  refine j_top (nI_1 n) ?_
  refine j_sld C hX (k := n + 1) (by omega) dL_law_446 rfl ?_
  refine j_aload_n C 0 rfl rfl dL_law_447 rfl ?_
  refine j_iload_n C 3 rfl rfl dL_law_448 rfl ?_
  refine j_iconst C 2 dL_law_449 (by decide) rfl ?_
  refine j_iadd C dL_law_450 rfl ?_
  refine j_top (nI_2 n) ?_
  refine j_sld C hX (k := n + 2) (by omega) dL_law_451 rfl ?_
  refine j_callP C [0, 1, 2, 3, 4] [5, 6, 7, 8, 9, 10, 11, 12] (met_X1_way l D h2 q2 dZ dB cap clo one two (xs (n + 1)) (xs (n + 2))) (wr := gW h q dZ dB cap clo ((g_way cap clo use (xs (n + 1)) (xs (n + 2))).2) len set par que) rfl rfl rfl rfl rfl (by decide) q259 q260 q261 q16 q262 ds_X1_way ⟨rfl, rfl⟩ ⟨Nat.le_of_ble_eq_true rfl, Nat.le_of_ble_eq_true rfl⟩ rfl rfl rfl rfl (rest := [.int ((g_way cap clo use (xs (n + 1)) (xs (n + 2))).1)]) rfl (Nat.le_of_ble_eq_true rfl) ⟨Nat.le_of_ble_eq_true rfl, Nat.le_of_ble_eq_true rfl⟩ dL_law_452 rfl (st' := [.int (m_way cap clo one two (xs (n + 1)) (xs (n + 2))), .int ((g_way cap clo use (xs (n + 1)) (xs (n + 2))).1)]) rfl (ws' := gW h q dZ dB cap clo ((g_way cap clo use (xs (n + 1)) (xs (n + 2))).2) len set par que ++ mW h2 q2 dZ dB cap clo one two) rfl ?_
  rw [way_eq ho (Cb_Rb (by decide) hc clo) use]
  refine j_icmp_eq C 473 dL_law_455 (by decide) rfl (fun _ => ?_) (fun c_1 => absurd rfl c_1)
  exact K _ _ _ _ _ _ _ hc hz
set_option maxHeartbeats 4000000 in
theorem law_cutStreets {p : Program} {l : Launch} {e : Env} {s : State} {m : MethodId} {args : Array Value} {below : List Frame} {meth : Method} {c : Code} {D : va_G} {A : Nat → Prop} {Q : State → Prop} {b L h h2 : Nat} {xs : Nat → Int32} {q q2 : Nat → Nat} {dZ dB : ClassId} {one two : Nat → Int32} {n : Nat} {cap clo use len set par que : Nat → Int32} (C : Cx p s m args meth c cL_law 4 "GridDualsLaw" (some .boolean) D (tyZ dZ dB) A) (hX : Scr s A b L xs) (ho : OTw one two) (hn : n + 3 ≤ L) (hc : Cb cap 20) (hz : Zb clo) (K : ∀ cap clo use len set par que, Cb cap 20 → Zb clo → J p l e room_1 s m args below meth c D A 4 13 170 Q (gW h q dZ dB cap clo use len set par que ++ mW h2 q2 dZ dB cap clo one two) 473 [(0, .ref b), (1, .ref h), (2, .ref h2), (3, .int (nI n))] []) : J p l e room_1 s m args below meth c D A 4 13 170 Q (gW h q dZ dB cap clo use len set par que ++ mW h2 q2 dZ dB cap clo one two) 460 [(0, .ref b), (1, .ref h), (2, .ref h2), (3, .int (nI n))] [] := by
  refine j_aload_n C 1 rfl rfl dL_law_460 rfl ?_
  refine j_callP C [0, 1, 2, 3, 4, 5, 6, 7] [8, 9, 10, 11, 12] (met_X0_cutStreets l D h q dZ dB cap clo use len set par que ) (wr := mW h2 q2 dZ dB cap clo one two) rfl rfl rfl rfl rfl (by decide) q159 q160 q161 q15 q162 ds_X0_cutStreets ⟨rfl, rfl⟩ ⟨Nat.le_of_ble_eq_true rfl, Nat.le_of_ble_eq_true rfl⟩ rfl rfl rfl rfl (rest := []) rfl (Nat.le_of_ble_eq_true rfl) ⟨Nat.le_of_ble_eq_true rfl, Nat.le_of_ble_eq_true rfl⟩ dL_law_461 rfl (st' := [.int ((g_cutStreets cap clo use par que).1)]) rfl (ws' := mW h2 q2 dZ dB cap clo one two ++ gW h q dZ dB cap clo ((g_cutStreets cap clo use par que).2.1) len set ((g_cutStreets cap clo use par que).2.2.1) ((g_cutStreets cap clo use par que).2.2.2)) rfl ?_
  refine j_aload_n C 2 rfl rfl dL_law_464 rfl ?_
  refine j_callP C [0, 1, 2, 3, 4] [5, 6, 7, 8, 9, 10, 11, 12] (met_X1_cutStreets l D h2 q2 dZ dB cap clo one two ) (wr := gW h q dZ dB cap clo ((g_cutStreets cap clo use par que).2.1) len set ((g_cutStreets cap clo use par que).2.2.1) ((g_cutStreets cap clo use par que).2.2.2)) rfl rfl rfl rfl rfl (by decide) q263 q264 q265 q16 q266 ds_X1_cutStreets ⟨rfl, rfl⟩ ⟨Nat.le_of_ble_eq_true rfl, Nat.le_of_ble_eq_true rfl⟩ rfl rfl rfl rfl (rest := [.int ((g_cutStreets cap clo use par que).1)]) rfl (Nat.le_of_ble_eq_true rfl) ⟨Nat.le_of_ble_eq_true rfl, Nat.le_of_ble_eq_true rfl⟩ dL_law_465 rfl (st' := [.int (m_cutStreets cap clo one two), .int ((g_cutStreets cap clo use par que).1)]) rfl (ws' := gW h q dZ dB cap clo ((g_cutStreets cap clo use par que).2.1) len set ((g_cutStreets cap clo use par que).2.2.1) ((g_cutStreets cap clo use par que).2.2.2) ++ mW h2 q2 dZ dB cap clo one two) rfl ?_
  rw [cutStreets_eq ho (Cb_Rb (by decide) hc clo) use par que]
  refine j_icmp_eq C 473 dL_law_468 (by decide) rfl (fun _ => ?_) (fun c_1 => absurd rfl c_1)
  exact K _ _ _ _ _ _ _ hc hz
end
section
set_option maxRecDepth 100000
theorem law_gt {L n : Nat} (hL : L ≤ 192) (hn : n ≤ 192) : nI L - 3 < nI n ↔ ¬ n + 3 ≤ L := by
  have e := pk_sub_toInt (a := L) (b := 3) (by omega) (by decide)
  rw [ti_lt, show nI L - 3 = nI L - nI 3 from rfl, e, nI_toInt (by omega)]
  omega
theorem nI_3 (a : Nat) : nI a + Int32.ofInt 3 = nI (a + 3) := nI_add a 3
theorem pick15 (x : Int32) : ∃ j : Nat, j < 16 ∧ x &&& 15 = nI j := pk_andE x 4 (by decide)
set_option maxHeartbeats 4000000 in
/-- the loop: for every state between the calls the law comes to its end -/
theorem law_loop {p : Program} {l : Launch} {e : Env} {s : State} {m : MethodId} {args : Array Value} {below : List Frame} {meth : Method} {c : Code} {D : va_G} {A : Nat → Prop} {Q : State → Prop} {b L h h2 : Nat} {xs : Nat → Int32} {q q2 : Nat → Nat} {dZ dB : ClassId} {one two : Nat → Int32} (C : Cx p s m args meth c cL_law 4 "GridDualsLaw" (some .boolean) D (tyZ dZ dB) A) (hX : Scr s A b L xs) (ho : OTw one two) (E : ∀ ws lv, J p l e room_1 s m args below meth c D A 4 13 170 Q ws 480 lv [.int 1]) : ∀ d n cap clo use len set par que, n + d = 195 → n ≤ 192 → Cb cap 20 → Zb clo → J p l e room_1 s m args below meth c D A 4 13 170 Q (gW h q dZ dB cap clo use len set par que ++ mW h2 q2 dZ dB cap clo one two) 18 [(0, .ref b), (1, .ref h), (2, .ref h2), (3, .int (nI n))] [] := by
  have hL := hX.2.2.2
  intro d
  induction d using Nat.strongRecOn with
  | ind d ih =>
    intro n cap clo use len set par que hd hn hc hz
    refine j_iload_n C 3 rfl rfl dL_law_18 rfl ?_
    refine j_aload_n C 0 rfl rfl dL_law_19 rfl ?_
    refine j_slen C hX dL_law_20 rfl ?_
    refine j_iconst C 3 dL_law_21 (by decide) rfl ?_
    refine j_isub C dL_law_22 rfl ?_
    refine j_icmp_gt C 479 dL_law_23 (by decide) rfl (fun _ => ?_) (fun c_1 => ?_)
    · refine j_iconst C 1 dL_law_479 (by decide) rfl ?_
      exact E _ _
    · have hn3 : n + 3 ≤ L := Decidable.not_not.mp (fun h => c_1 ((law_gt hL hn).mpr h))
      have K : ∀ cap clo use len set par que, Cb cap 20 → Zb clo → J p l e room_1 s m args below meth c D A 4 13 170 Q (gW h q dZ dB cap clo use len set par que ++ mW h2 q2 dZ dB cap clo one two) 473 [(0, .ref b), (1, .ref h), (2, .ref h2), (3, .int (nI n))] [] := by
        intro cap clo use len set par que hc hz
        refine j_iinc C [(3, .int (nI (n + 3))), (0, .ref b), (1, .ref h), (2, .ref h2)] 3 rfl (nI_3 _) (by decide) rfl dL_law_473 rfl ?_
        refine j_goto C 18 dL_law_476 (by decide) ?_
        refine j_lv [1, 2, 3, 0] rfl (ih (d - 3) (by omega) (n + 3) cap clo use len set par que (by omega) (by omega) hc hz)
      refine j_aload_n C 0 rfl rfl dL_law_26 rfl ?_
      refine j_iload_n C 3 rfl rfl dL_law_27 rfl ?_
      refine j_sld C hX (k := n) (by omega) dL_law_28 rfl ?_
      refine j_bipush C 15 dL_law_29 (by decide) rfl ?_
      refine j_iand C dL_law_31 rfl ?_
      obtain ⟨j, hj, ej⟩ := pick15 (xs n)
      refine j_top ej ?_
      match j, hj with
      | 0, _ => exact j_tsIn C 108 dL_law_32 (by decide) (by decide) rfl (by decide) (law_set C hX ho hn3 hc hz K)
      | 1, _ => exact j_tsIn C 141 dL_law_32 (by decide) (by decide) rfl (by decide) (law_sow C hX ho hn3 hc hz K)
      | 2, _ => exact j_tsIn C 174 dL_law_32 (by decide) (by decide) rfl (by decide) (law_close C hX ho hn3 hc hz K)
      | 3, _ => exact j_tsIn C 207 dL_law_32 (by decide) (by decide) rfl (by decide) (law_capacity C hX ho hn3 hc hz K)
      | 4, _ => exact j_tsIn C 230 dL_law_32 (by decide) (by decide) rfl (by decide) (law_between C hX ho hn3 hc hz K)
      | 5, _ => exact j_tsIn C 263 dL_law_32 (by decide) (by decide) rfl (by decide) (law_flow C hX ho hn3 hc hz K)
      | 6, _ => exact j_tsIn C 276 dL_law_32 (by decide) (by decide) rfl (by decide) (law_weight C hX ho hn3 hc hz K)
      | 7, _ => exact j_tsIn C 299 dL_law_32 (by decide) (by decide) rfl (by decide) (law_firstCut C hX ho hn3 hc hz K)
      | 8, _ => exact j_tsIn C 312 dL_law_32 (by decide) (by decide) rfl (by decide) (law_lastCut C hX ho hn3 hc hz K)
      | 9, _ => exact j_tsIn C 325 dL_law_32 (by decide) (by decide) rfl (by decide) (law_leastWith C hX ho hn3 hc hz K)
      | 10, _ => exact j_tsIn C 348 dL_law_32 (by decide) (by decide) rfl (by decide) (law_leastWithout C hX ho hn3 hc hz K)
      | 11, _ => exact j_tsIn C 371 dL_law_32 (by decide) (by decide) rfl (by decide) (law_loss C hX ho hn3 hc hz K)
      | 12, _ => exact j_tsIn C 394 dL_law_32 (by decide) (by decide) rfl (by decide) (law_gain C hX ho hn3 hc hz K)
      | 13, _ => exact j_tsIn C 427 dL_law_32 (by decide) (by decide) rfl (by decide) (law_way C hX ho hn3 hc hz K)
      | 14, _ => exact j_tsIn C 460 dL_law_32 (by decide) (by decide) rfl (by decide) (law_cutStreets C hX ho hn3 hc hz K)
      | 15, _ => exact j_tsOut C 473 dL_law_32 (Or.inr (by decide)) (by decide) (K cap clo use len set par que hc hz)
      | j + 16, h => exact absurd h (by omega)
end
section
set_option maxRecDepth 100000
/-! THE CLAIM OUT OF ONE WALK OF THE LAW'S BODY. Your part is whole_start (and what it stands on); all else here is the same for every law, but numbers. -/
def R_law : String := "GridDualsLaw"
def lw_P (b : Addr) (xs : List Int32) (args : Array Value) (s : State) : Prop := args = #[.ref b] ∧ s.IntsAt b xs ∧ xs.length ≤ 192 ∧ (Jvm.Cond.and given_1 narrow_1).before args s = true
def lw_Q (_ : Array Value) (s : State) (o : Outcome) (t : State) : Prop := o = .returned (some (.int 1)) ∧ Framed s o t [] 600000 7290000
def lw_Z (below : List Frame) (a : Array Value) (s : State) : State → Prop := fun t => ∃ o, t.status = .running ∧ Ended t below o ∧ lw_Q a s o t
/-- the law's own end, with 1 on the stack, nothing written that was there before, its room as the claim has it -/
theorem lw_ret {p : Program} {l : Launch} {e : Env} {s : State} {m : MethodId} {below : List Frame} {meth : Method} {c : Code} {b : Nat} (hx : p.tables.exec = Jvm.exec) (hb : c.code = code) (hr : meth.sig.returnType = ret) (hlocks : meth.locks = false) {pc : Nat} {H : Heap} {ls : Array Slot} (hdg : decode code pc = .ok (.ireturn, 1)) : W p l e room_1 s m #[Value.ref b] below meth c H [] 600000 7290000 (lw_Z below #[Value.ref b] s) (F0 m pc ls [.int 1]) := by
  intro T hT X
  obtain ⟨fs, hret, hrun, hended, hW, hframe⟩ := X.leave (v := some (.int 1)) (hlocks := hlocks) (fun h => by rw [hr] at h; cases h)
  have hmeth' : T.vm.method? m = some meth := X.method'
  refine ⟨T.setFrames fs, ?_, .returned (some (.int 1)), hrun, hended, rfl, ⟨_, rfl⟩, hW, hframe⟩
  jvm_step X.here [X.here.top, hx, hb, hdg, hmeth', hr, ret, narrow_b1]
  (try refine ⟨rfl, ?_⟩); (try refine ⟨rfl, ?_⟩)
  first | (intro acts; rw [hret _ acts rfl rfl rfl]) | rw [hret _ _ rfl rfl rfl]
  exact Steps.refl _
/-- what holds at the law's entry: the machine, the code, the tables' words (any of lw_tbl by 'hts w (by decide +kernel)'), the script of L ints xs at the cell b, what the Statement gives of the start (any of its parts by flat_of_before) -/
def lw_At (p : Program) (s : State) (m : MethodId) (meth : Method) (c : Code) (b L : Nat) (xs : Nat → Int32) : Prop :=
  p.tables.exec = Jvm.exec ∧ c.code = code ∧ meth.sig.returnType = ret ∧ c.maxLocals = 4 ∧ s.vm.findClass R_law = some m.cls ∧ (∀ w ∈ lw_tbl, w.before #[Value.ref b] s = true) ∧ va_X b L xs s s.heap ∧ b < s.heap.size ∧ meth.locks = false ∧ (Jvm.Cond.and given_1 narrow_1).before #[Value.ref b] s = true
-- ===== YOUR PART BEGINS =====
/-- the classes, known at the claim's start -/
theorem classes_all {s0 : State} {a0 : Array Value} (ht0 : ∀ w ∈ lw_all, w.before a0 s0 = true) : ∃ (dC : Nat → ClassId) (dI : Nat → Nat → Nat), ∀ (k : Nat) (q : vw_C), vwCl[k]? = some q → u_Kn s0 q.1 q.2.1 q.2.2 (dC k) (dI k) := by
  obtain ⟨c0_, iS0, hKn0⟩ := u_known (C := RX0) (T := TX0) (N := 7) (n := 7) ht0 in_X0 (ht0 _ q18)
  obtain ⟨c1_, iS1, hKn1⟩ := u_known (C := RX1) (T := TX1) (N := 4) (n := 4) ht0 in_X1 (ht0 _ q165)
  refine ⟨fun k => if k = 0 then c0_ else c1_, fun k => if k = 0 then iS0 else iS1, ?_⟩
  intro k q hq
  match k, hq with
  | 0, hq => cases hq; exact hKn0
  | 1, hq => cases hq; exact hKn1
  | k + 2, hq => simp [vwCl] at hq
set_option maxHeartbeats 4000000 in
/-- YOUR PART: from the entry, for every script of at most 192 ints, the law comes to its end with true -/
theorem whole_start {p : Program} {e : Env} {s : State} {m : MethodId} {below : List Frame} {meth : Method} {c : Code} (l : Launch) {b L : Nat} {xs : Nat → Int32} (hL : L ≤ 192) (C0 : lw_At p s m meth c b L xs) : W p l e room_1 s m #[Value.ref b] below meth c s.heap [] 0 0 (lw_Z below #[Value.ref b] s) (entryFrame m ([Value.ref b] : List Value).toArray 4) := by
  obtain ⟨hx, hb, hr, hml, hown, hts0, hX, hbl, hlocks, -⟩ := C0
  have hts : ∀ w ∈ lw_all, w.before #[Value.ref b] s = true := fun w h => hts0 w (lw_all_tbl h)
  obtain ⟨dC, dI, hKc0⟩ := classes_all hts
  have hK : va_K (dC, dI) vwCl [] s := ⟨hKc0, fun k q hk => by simp at hk⟩
  obtain ⟨A, hA, hAb⟩ : ∃ A : Nat → Prop, (∀ q : Nat, s.heap.size ≤ q → A q) ∧ (∀ q : Nat, A q → s.heap.size ≤ q) := ⟨fun q => s.heap.size ≤ q, fun _ h => h, fun _ h => h⟩
  have hS : va_S A s.heap s.heap [] := va_S.rf
  have hP : va_P (dC, dI) vwCl [] s.heap := fun k q hk => by simp at hk
  have hD : va_D A [] := ⟨fun i j a b hi => by simp at hi, fun k q hk => by simp at hk⟩
  have hl := lv_entry ([.ref b]) (n := 4) (Nat.le_of_ble_eq_true rfl)
  rw [lg_entry_eq]
  generalize (lg_sl ([.ref b]) ++ List.replicate (4 - (lg_sl ([.ref b])).length) Slot.unset).toArray = ls at hl ⊢
  have hl : lv_has ls 4 [(0, .ref b)] := hl
  refine va_new (ci := 0) (fs := [.null, .null, .null, .null, .null, .null, .null]) (C := RX0) (T := TX0) (N := 7) hx hb hts in_X0 tyX0 tyX0_ok hown (hts _ q17) (hts _ q18) (hts _ q15) hK hP hD hS hA rfl (fun j hj => by rcases (show j = 0 ∨ j = 1 ∨ j = 2 ∨ j = 3 ∨ j = 4 ∨ j = 5 ∨ j = 6 by omega) with rfl | rfl | rfl | rfl | rfl | rfl | rfl <;> rfl) (Nat.le_of_ble_eq_true rfl) (Nat.le_of_ble_eq_true rfl) dL_law_0 (fun h H hP hD hS => ?_)
  have hP : va_P (dC, dI) vwCl [(h, .inr (0, [.null, .null, .null, .null, .null, .null, .null]))] H := hP
  have hD : va_D A [(h, .inr (0, [.null, .null, .null, .null, .null, .null, .null]))] := hD
  refine W.widen (k := 1) (n := 7) (Nat.le_of_ble_eq_true rfl) (Nat.le_of_ble_eq_true rfl) ?_
  refine lv_dup hx hb dL_law_3 rfl ?_
  have hFc := va_free (wc := [(h, .inr (0, [.null, .null, .null, .null, .null, .null, .null]))]) hD hS hA [0] rfl
  refine va_callv (va_runI (As := []) (rest := [.ref h]) ⟨hx, hb, hml, hown, hts⟩ (met_X0_init l (dC, dI) h H.size) (cwI 0 hts (lw_meth q21) rfl rfl rfl (hts _ q15) (hts _ q19) (hts _ q20) rfl (by decide +kernel) ⟨Nat.le_of_ble_eq_true rfl, Nat.le_of_ble_eq_true rfl⟩) ⟨blindD, fun U hU hW => ⟨rfl, by rw [hU], by rw [hU]; exact hP, va_K.moved hW.alike hK, hD.weaken (fun _ _ _ _ => trivial)⟩⟩ rfl rfl hl.1 rfl (lv_room (Nat.le_of_ble_eq_true rfl)) dL_law_4 ⟨Nat.le_of_ble_eq_true rfl, Nat.le_of_ble_eq_true rfl⟩) hS (fun q _ h => hFc q h) hFc (fun u t H1 locs ht hvm _ hB hz1 hk1 hS => ?_)
  obtain ⟨q, dZ, dB⟩ := u
  obtain ⟨hP1, hK1, hD1⟩ := hB
  rw [ht] at hP1
  have hK1 := va_K.moved hvm.symm hK1
  obtain ⟨hP, hD⟩ := va_join (wr := []) (w1 := gW h q dZ dB z0 z0 z0 (upd z0 6 0) z0 z0 z0) hP hD [0] [] rfl rfl (by decide) (by decide) hk1 hFc hP1 hD1
  have hP : va_P (dC, dI) vwCl (gW h q dZ dB z0 z0 z0 (upd z0 6 0) z0 z0 z0) H1 := hP
  have hD : va_D A (gW h q dZ dB z0 z0 z0 (upd z0 6 0) z0 z0 z0) := hD
  have hK1 : va_K (dC, dI) vwCl (tyZ dZ dB) s := hK1
  clear hP1 hD1 hk1 hFc ht hz1
  refine lv_astore_n (lv' := [(1, .ref h), (0, .ref b)]) hx hb dL_law_7 rfl hl (by decide) rfl (fun ls hl => ?_)
  refine va_new (ci := 1) (fs := [.null, .null, .null, .null]) (C := RX1) (T := TX1) (N := 4) hx hb hts in_X1 tyX1 tyX1_ok hown (hts _ q164) (hts _ q165) (hts _ q16) hK hP hD hS hA rfl (fun j hj => by rcases (show j = 0 ∨ j = 1 ∨ j = 2 ∨ j = 3 by omega) with rfl | rfl | rfl | rfl <;> rfl) (Nat.le_of_ble_eq_true rfl) (Nat.le_of_ble_eq_true rfl) dL_law_8 (fun h2 H hP hD hS => ?_)
  have hP : va_P (dC, dI) vwCl (gW h q dZ dB z0 z0 z0 (upd z0 6 0) z0 z0 z0 ++ [(h2, .inr (1, [.null, .null, .null, .null]))]) H := hP
  have hD : va_D A (gW h q dZ dB z0 z0 z0 (upd z0 6 0) z0 z0 z0 ++ [(h2, .inr (1, [.null, .null, .null, .null]))]) := hD
  refine W.widen (k := 9) (n := 102) (Nat.le_of_ble_eq_true rfl) (Nat.le_of_ble_eq_true rfl) ?_
  refine lv_dup hx hb dL_law_11 rfl ?_
  have hPc := hP.sub (ws' := [(h2, .inr (1, [.null, .null, .null, .null]))]) [8] rfl
  have hDc := hD.sub (ws' := [(h2, .inr (1, [.null, .null, .null, .null]))]) [8] (by decide) rfl
  have hFc := va_free (wc := [(h2, .inr (1, [.null, .null, .null, .null]))]) hD hS hA [8] rfl
  refine va_callv (va_runI (As := []) (rest := [.ref h2]) ⟨hx, hb, hml, hown, hts⟩ (met_X1_init l (dC, dI) h2 H.size) (cwI 0 hts (lw_meth q168) rfl rfl rfl (hts _ q16) (hts _ q166) (hts _ q167) rfl (by decide +kernel) ⟨Nat.le_of_ble_eq_true rfl, Nat.le_of_ble_eq_true rfl⟩) ⟨blindD, fun U hU hW => ⟨rfl, by rw [hU], by rw [hU]; exact hPc, va_K.moved hW.alike hK, hDc.weaken (fun _ _ _ _ => trivial)⟩⟩ rfl rfl hl.1 rfl (lv_room (Nat.le_of_ble_eq_true rfl)) dL_law_12 ⟨Nat.le_of_ble_eq_true rfl, Nat.le_of_ble_eq_true rfl⟩) hS (fun q _ h => hFc q h) hFc (fun u t H1 locs ht hvm ho hB hz1 hk1 hS => ?_)
  obtain ⟨q2, dZ2, dB2, one, two⟩ := u
  obtain ⟨hP1, hK2, hD1⟩ := hB
  rw [ht] at hP1
  have hK2 := va_K.moved hvm.symm hK2
  have hK2 : va_K (dC, dI) vwCl (tyZ dZ2 dB2) s := hK2
  have hK3 := hK1.app hK2
  obtain rfl : dZ = dZ2 := va_K_same hK3 (i := 0) (j := 2) (Or.inl rfl) rfl rfl
  obtain rfl : dB = dB2 := va_K_same hK3 (i := 1) (j := 3) (Or.inr rfl) rfl rfl
  have ho : OTw one two := ho
  obtain ⟨hP, hD⟩ := va_join (wr := gW h q dZ dB z0 z0 z0 (upd z0 6 0) z0 z0 z0) (w1 := mW h2 q2 dZ dB z0 z0 one two) hP hD [8] [0, 1, 2, 3, 4, 5, 6, 7] rfl rfl (by decide) (by decide) hk1 hFc hP1 hD1
  refine W.widen (k := 13) (n := 170) (Nat.le_of_ble_eq_true rfl) (Nat.le_of_ble_eq_true rfl) ?_
  refine lv_astore_n (lv' := [(2, .ref h2), (1, .ref h), (0, .ref b)]) hx hb dL_law_15 rfl hl (by decide) rfl (fun ls hl => ?_)
  refine lv_iconst (v := 0) hx hb dL_law_16 (by decide) ?_
  refine lv_istore_n (lv' := [(3, .int 0), (2, .ref h2), (1, .ref h), (0, .ref b)]) hx hb dL_law_17 rfl hl (by decide) rfl (fun ls hl => ?_)
  have C : Cx p s m #[Value.ref b] meth c cL_law 4 "GridDualsLaw" (some .boolean) (dC, dI) (tyZ dZ dB) A := ⟨⟨hx, hb, hml, hown, hts⟩, hr, hlocks, hK1, hA⟩
  have E : ∀ ws lv, J p l e room_1 s m #[Value.ref b] below meth c (dC, dI) A 4 13 170 (lw_Z below #[Value.ref b] s) ws 480 lv [.int 1] := fun ws lv H locs ls hP hD hS hl => va_forget (fun q hq => hAb _ (hS.2.2 q hq)) (W.widen (k := 600000) (n := 7290000) (Nat.le_of_ble_eq_true rfl) (Nat.le_of_ble_eq_true rfl) (lw_ret hx hb hr hlocks dL_law_480))
  have hc : Cb z0 20 := fun k _ => by
    show 0 ≤ (0 : Int32).toInt ∧ (0 : Int32).toInt ≤ 20
    rw [ti_0]; decide
  have hl2 := lv_sub (l' := [(0, .ref b), (1, .ref h), (2, .ref h2), (3, .int (nI 0))]) hl [3, 2, 1, 0] rfl
  exact J.go (law_loop C ⟨hX, hbl, fun h => absurd (hAb b h) (Nat.not_le.mpr hbl), hL⟩ ho E 195 0 z0 z0 z0 (upd z0 6 0) z0 z0 z0 rfl (by decide) hc (fun _ _ => Or.inl rfl)) hP hD hS hl2
-- ===== YOUR PART ENDS =====
set_option maxHeartbeats 4000000 in
theorem lw_walk (l : Launch) (b : Addr) (xs : List Int32) : MetFree l x (headSpec (Jvm.Cond.code x code maxLocals ret :: tables_1) room_1) (lw_P b xs) (fun _ _ _ _ _ => True) lw_Q := by
  refine MetFree.of_bodyS (code := code) (maxLocals := maxLocals) (ret := ret) (by decide) ?_ ?_
  · intro args s m h hn
    obtain ⟨meth, c, h1, h2, h3, h4, h5, h6, -, -⟩ := Cond.code_spec hn (atoms_spec (ws := Jvm.Cond.code x code maxLocals ret :: tables_1) h _ List.mem_cons_self)
    exact ⟨meth, c, h1, h2, h3, h4, h5, h6⟩
  · intro p e s m args below meth c s₁ B hml0 hP _
    obtain ⟨rfl, hx, hbd, hgv⟩ := hP
    obtain ⟨scr, harrAt, hlist, hof, hsmall⟩ := hx
    obtain ⟨hcb, hkn, -, -⟩ := State.arrayAt?_spec harrAt
    have hown : s.vm.findClass R_law = some m.cls := findClass_of_methodNamed B.named
    have hts0 : ∀ c ∈ (Jvm.Cond.code x code maxLocals ret :: tables_1), c.before #[Value.ref b] s = true := atoms_spec (ws := Jvm.Cond.code x code maxLocals ret :: tables_1) B.pre
    have hts : ∀ w ∈ lw_tbl, w.before #[Value.ref b] s = true := k2_hts_sels lw_privs (fun w hw => hts0 w (List.mem_cons_of_mem _ hw)) lw_privs_ok
    have hml : c.maxLocals = 4 := B.maxLocals_eq (hts0 _ List.mem_cons_self)
    have X₀ : Stand p l e room_1 s m #[Value.ref b] below meth c s₁ [] 0 0 := Stand.of_body B
    have hh0 : s₁.heap = s.heap := by rw [B.state]; rfl
    have hsz : scr.slots.size = xs.length := by rw [← Array.length_toList, hlist, List.length_map]
    have hval : ∀ j : Nat, j < xs.length → scr.slots[j]? = some (.int (xs.getD j 0)) := fun j hj => by
      rw [← Array.getElem?_toList, hlist]
      simp [hj]
    have hbl : b < s.heap.size := (Array.getElem?_eq_some_iff.mp hcb).1
    have hX : va_X b xs.length (fun j => xs.getD j 0) s s.heap := ⟨scr, hcb, hof, hkn, hsz, hval⟩
    have K : W p l e room_1 s m #[Value.ref b] below meth c s₁.heap [] 0 0 (lw_Z below #[Value.ref b] s) (entryFrame m ([Value.ref b] : List Value).toArray 4) := by
      rw [hh0]
      exact whole_start l hbd ⟨B.exec, B.bytes, B.returns, hml, hown, hts, hX, hbl, B.notSynchronized, hgv⟩
    obtain ⟨t, a1, o, b1, b2, b3⟩ := K s₁ rfl X₀
    exact ⟨t, o, a1, b1, b2, b3⟩
theorem lw_pre_spec {args : Array Value} {s : State} (h : (Jvm.Cond.and given_1 narrow_1).before args s = true) (hr : rest_1_c.before args s = true) : ∃ (b : Addr) (xs : List Int32), lw_P b xs args s := by
  have hs := flat_of_before _ h
  have hq := flat_of_before _ hr
  have hc : (Cond.count 1).before args s = true := hs _ (by decide +kernel)
  have harr : (Cond.arrayOf (.arg 0) .int).before args s = true := hs _ (by decide +kernel)
  have hle : (Cond.le (.length (.arg 0)) (.int 192)).before args s = true := hs _ (by decide +kernel)
  have hlen : (Cond.isInt (.length (.arg 0))).before args s = true := hq _ (by decide +kernel)
  have hall : (Cond.all (.arg 0) (.isInt (.elem (.arg 0) (.index 0)))).before args s = true := hq _ (by decide +kernel)
  obtain ⟨b, xs, hb, hx⟩ := State.ints_of_pre rfl harr hlen hall
  have hsm : xs.length < 2 ^ 31 := hx.choose_spec.2.2.2
  have hev : (Term.length (.arg 0)).eval args s none [] s = some (.int xs.length.toInt32) := hx.length_eval hb
  have hv := Cond.le_ints hev (show (Term.int 192).eval args s none [] s = some (.int 192) from rfl)
  have hd : xs.length.toInt32 ≤ 192 := by
    simpa [Cond.before, Cond.holds, hv] using hle
  have hN : xs.length ≤ 192 := (Int32.ofNat_le_ofNat hsm (by decide)).mp (show Int32.ofNat xs.length ≤ Int32.ofNat 192 from hd)
  exact ⟨b, xs, Cond.one_arg hc (show args[0]? = some (.ref b) from hb), hx, hN, h⟩
theorem lw_comes (l : Launch) : Comes l x (Jvm.Cond.code x code maxLocals ret :: tables_1) room_1 (fun tb e args s => Calls_1 tb e args s ∧ rest_1 tb e args s ∧ Pre_1 tb e args s)
    (fun _ _ args s o t => lw_Q args s o t) := by
  intro p e ha hc hk s m args below hf hfit hheap happ hpre
  obtain ⟨b, xs, hP⟩ := lw_pre_spec hpre.2.2 hpre.2.1
  obtain ⟨k, o, h1, h2, h3, hQ⟩ := lw_walk l b xs p e ha hc hk s m args below hf ((Spec.applies_iff_loose hf).mp happ).1 hP trivial
  exact ⟨k, o, h1, h2, h3, hQ⟩
theorem lw_frame {s t : State} {o : Outcome} {args : Array Value} (h : Framed s o t [] 600000 7290000) :
    Framed s o t (fieldLocs frame_1_writes args s ++ arrayLocs frame_1_arrays args s ++ staticLocs frame_1_statics s) 600000 7290000 := h
theorem lw_limb (L : Cond) (hL : ∀ (args : Array Value) (s t : State), L.after args s (.returned (some (.int 1))) t = true) :
    ArmFor flags0 classFile x code maxLocals ret World_1 tables_1 room_1 Calls_1 rest_1 Pre_1
      (fun tb e a s o t => postC L tb e a s o t ∧ Framed s o t (fieldLocs frame_1_writes a s ++ arrayLocs frame_1_arrays a s ++ staticLocs frame_1_statics s) 600000 7290000) := by
  intro l _ _ _ p e ha hc hk s m args below hf hfit hheap happ hpre
  obtain ⟨k, o, h1, h2, h3, rfl, hF⟩ := lw_comes l p e ha hc hk s m args below hf hfit hheap happ hpre
  exact ⟨k, _, h1, h2, h3, hL args s _, lw_frame hF⟩
theorem i_vc : Claimed_1_1 ∧ Claimed_1_2 := ⟨lw_limb limb_1_1 (fun args s t => by simp [limb_1_1, Cond.after, Cond.holds, Cond.value]), lw_limb limb_1_2 (fun args s t => Cond.after_iff.mpr (by
  first | (rw [show limb_1_2 = Cond.eq .result (.int 1) from rfl, Cond.eq_ints (x := 1) (y := 1) rfl rfl]; simp; done) | (simp [limb_1_2, Cond.value, Term.eval]; done)))⟩
end
