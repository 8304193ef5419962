section
-- ===== PART A: goes FIRST, ahead of the names: the tables' words, and 'selects' of the private methods out of them =====
/-- a private method of a class that the tables say can be made, by its rows of tables_1 -/
def lw_okq (q : MethodName × Nat) : Prop := (q.1.cls ≠ "java/lang/invoke/MethodHandle" ∧ q.1.cls ≠ "java/lang/invoke/VarHandle") ∧ Cond.instantiable q.1.cls q.2 ∈ tables_1 ∧ Cond.privateMethod q.1 ∈ tables_1 ∧ Cond.instanceMethod q.1 ∈ tables_1
set_option maxRecDepth 100000
theorem lw_t1 {w : Cond} (h : w ∈ tables_1_1) : w ∈ tables_1 := List.mem_append_left _ h
theorem lw_t2 {w : Cond} (h : w ∈ tables_1_2) : w ∈ tables_1 := List.mem_append_right _ h
theorem lw_p0 : lw_okq (⟨"CausalStore", "arrive", "(II)I"⟩, 14) := ⟨⟨by decide +kernel, by decide +kernel⟩, lw_t1 (List.mem_of_getElem? (i := 4) rfl), lw_t1 (List.mem_of_getElem? (i := 64) rfl), lw_t1 (List.mem_of_getElem? (i := 65) rfl)⟩
theorem lw_p1 : lw_okq (⟨"CausalStore", "show", "(II)V"⟩, 14) := ⟨⟨by decide +kernel, by decide +kernel⟩, lw_t1 (List.mem_of_getElem? (i := 4) rfl), lw_t1 (List.mem_of_getElem? (i := 72) rfl), lw_t1 (List.mem_of_getElem? (i := 73) rfl)⟩
theorem lw_p2 : lw_okq (⟨"CausalStore", "beats", "(II)Z"⟩, 14) := ⟨⟨by decide +kernel, by decide +kernel⟩, lw_t1 (List.mem_of_getElem? (i := 4) rfl), lw_t1 (List.mem_of_getElem? (i := 76) rfl), lw_t1 (List.mem_of_getElem? (i := 77) rfl)⟩
theorem lw_p3 : lw_okq (⟨"CausalStore", "lower", "(II)V"⟩, 14) := ⟨⟨by decide +kernel, by decide +kernel⟩, lw_t1 (List.mem_of_getElem? (i := 4) rfl), lw_t1 (List.mem_of_getElem? (i := 83) rfl), lw_t1 (List.mem_of_getElem? (i := 84) rfl)⟩
theorem lw_p4 : lw_okq (⟨"CausalStore", "see", "(II)V"⟩, 14) := ⟨⟨by decide +kernel, by decide +kernel⟩, lw_t1 (List.mem_of_getElem? (i := 4) rfl), lw_t1 (List.mem_of_getElem? (i := 87) rfl), lw_t1 (List.mem_of_getElem? (i := 88) rfl)⟩
theorem lw_p5 : lw_okq (⟨"CausalStore", "noVersion", "(I)Z"⟩, 14) := ⟨⟨by decide +kernel, by decide +kernel⟩, lw_t1 (List.mem_of_getElem? (i := 4) rfl), lw_t1 (List.mem_of_getElem? (i := 106) rfl), lw_t1 (List.mem_of_getElem? (i := 107) rfl)⟩
theorem lw_p6 : lw_okq (⟨"CausalStoreModel", "three", "(I)Z"⟩, 9) := ⟨⟨by decide +kernel, by decide +kernel⟩, lw_t1 (List.mem_of_getElem? (i := 146) rfl), lw_t1 (List.mem_of_getElem? (i := 185) rfl), lw_t1 (List.mem_of_getElem? (i := 186) rfl)⟩
theorem lw_p7 : lw_okq (⟨"CausalStoreModel", "isKey", "(I)Z"⟩, 9) := ⟨⟨by decide +kernel, by decide +kernel⟩, lw_t1 (List.mem_of_getElem? (i := 146) rfl), lw_t1 (List.mem_of_getElem? (i := 189) rfl), lw_t1 (List.mem_of_getElem? (i := 190) rfl)⟩
theorem lw_p8 : lw_okq (⟨"CausalStoreModel", "sweep", "(I)I"⟩, 9) := ⟨⟨by decide +kernel, by decide +kernel⟩, lw_t1 (List.mem_of_getElem? (i := 146) rfl), lw_t1 (List.mem_of_getElem? (i := 201) rfl), lw_t1 (List.mem_of_getElem? (i := 202) rfl)⟩
theorem lw_p9 : lw_okq (⟨"CausalStoreModel", "allNeeded", "(I)Z"⟩, 9) := ⟨⟨by decide +kernel, by decide +kernel⟩, lw_t1 (List.mem_of_getElem? (i := 146) rfl), lw_t1 (List.mem_of_getElem? (i := 205) rfl), lw_t1 (List.mem_of_getElem? (i := 206) rfl)⟩
theorem lw_p10 : lw_okq (⟨"CausalStoreModel", "isVersion", "(I)Z"⟩, 9) := ⟨⟨by decide +kernel, by decide +kernel⟩, lw_t1 (List.mem_of_getElem? (i := 146) rfl), lw_t1 (List.mem_of_getElem? (i := 217) rfl), lw_t1 (List.mem_of_getElem? (i := 218) rfl)⟩
def lw_privs_1 : List (MethodName × Nat) := [(⟨"CausalStore", "arrive", "(II)I"⟩, 14), (⟨"CausalStore", "show", "(II)V"⟩, 14), (⟨"CausalStore", "beats", "(II)Z"⟩, 14), (⟨"CausalStore", "lower", "(II)V"⟩, 14), (⟨"CausalStore", "see", "(II)V"⟩, 14), (⟨"CausalStore", "noVersion", "(I)Z"⟩, 14), (⟨"CausalStoreModel", "three", "(I)Z"⟩, 9), (⟨"CausalStoreModel", "isKey", "(I)Z"⟩, 9), (⟨"CausalStoreModel", "sweep", "(I)I"⟩, 9), (⟨"CausalStoreModel", "allNeeded", "(I)Z"⟩, 9), (⟨"CausalStoreModel", "isVersion", "(I)Z"⟩, 9)]
theorem lw_r1 : ∀ q ∈ lw_privs_1, lw_okq q := List.forall_mem_cons.mpr ⟨lw_p0, List.forall_mem_cons.mpr ⟨lw_p1, List.forall_mem_cons.mpr ⟨lw_p2, List.forall_mem_cons.mpr ⟨lw_p3, List.forall_mem_cons.mpr ⟨lw_p4, List.forall_mem_cons.mpr ⟨lw_p5, List.forall_mem_cons.mpr ⟨lw_p6, List.forall_mem_cons.mpr ⟨lw_p7, List.forall_mem_cons.mpr ⟨lw_p8, List.forall_mem_cons.mpr ⟨lw_p9, List.forall_mem_cons.mpr ⟨lw_p10, fun _ h => absurd h List.not_mem_nil⟩⟩⟩⟩⟩⟩⟩⟩⟩⟩⟩
def lw_privs : List (MethodName × Nat) := lw_privs_1
def lw_tbl : List Cond := k2_sels lw_privs ++ tables_1
theorem lw_privs_ok : ∀ q ∈ lw_privs, lw_okq q := lw_r1
-- ===== ONE list of words for every method: the tables' words that hold all through a run =====
def lw_all : List Cond := lw_tbl.filter goodWord
/-- a word of the tables by its place: claim/WORDS.tsv -/
theorem lw_w {w : Cond} (i : Nat) (h : lw_tbl[i]? = some w) (g : goodWord w = true) : w ∈ lw_all := List.mem_filter.mpr ⟨List.mem_of_getElem? h, g⟩
theorem lw_all_tbl {w : Cond} (h : w ∈ lw_all) : w ∈ lw_tbl := (List.mem_filter.mp h).1
theorem lw_self : GoodIn lw_all lw_all := fun w h => ⟨h, good_of_word (List.mem_filter.mp h).2⟩
/-- a class's field words, by their places -/
theorem lw_in (ws : List Cond) (ps : List Nat) (hp : ws = ps.filterMap (fun i => lw_tbl[i]?)) (hg : ws.all goodWord = true) : ∀ w ∈ ws, w ∈ lw_all := by
  intro w h
  have h1 := List.all_eq_true.mp hg w h
  rw [hp] at h
  obtain ⟨i, -, hi⟩ := List.mem_filterMap.mp h
  exact lw_w i hi h1
/-- the words of a contract for the method y with code b, L locals, answer r -/
abbrev ws_ (y : MethodName) (b : ByteArray) (L : Nat) (r : Option FieldType) : List Cond := Cond.code y b L r :: lw_all
theorem lw_meth {y : MethodName} {b : ByteArray} {L : Nat} {r : Option FieldType} (h : Cond.code y b L r ∈ lw_all) : GoodIn lw_all (ws_ y b L r) := by
  intro w hw
  rcases List.mem_cons.mp hw with e | e
  · rw [e]
    exact lw_self _ h
  · exact lw_self _ e
theorem lw_app {a c : List Cond} (ha : ∀ w ∈ a, w ∈ lw_all) (hc : GoodIn lw_all c) : GoodIn lw_all (a ++ c) := by
  intro w hw
  rcases List.mem_append.mp hw with e | e
  · exact lw_self w (ha w e)
  · exact hc w e
/-- what a call through an object asks: cwV n hts (lw_V ..) -/
theorem lw_V {own : String} {idx : Nat} {C : String} {y : MethodName} {b : ByteArray} {L : Nat} {r : Option FieldType} (h1 : Cond.methodLink own idx y ∈ lw_all) (h2 : Cond.instanceMethod y ∈ lw_all) (h3 : Cond.selects C y y ∈ lw_all) (h4 : Cond.initialized C ∈ lw_all) (h5 : Cond.code y b L r ∈ lw_all) : GoodIn lw_all (wsV own idx C y (ws_ y b L r)) := by
  refine lw_app ?_ (lw_meth h5)
  intro w hw
  simp only [List.mem_cons, List.not_mem_nil, or_false] at hw
  rcases hw with e | e | e | e
  · rw [e]; exact h1
  · rw [e]; exact h2
  · rw [e]; exact h3
  · rw [e]; exact h4
/-- what a static call asks: va_cwS n hts (lw_S ..) -/
theorem lw_S {own : String} {idx : Nat} {y : MethodName} {b : ByteArray} {L : Nat} {r : Option FieldType} (h1 : Cond.methodLink own idx y ∈ lw_all) (h2 : Cond.static y ∈ lw_all) (h3 : Cond.initialized y.cls ∈ lw_all) (h4 : Cond.code y b L r ∈ lw_all) : GoodIn lw_all (va_wsS own idx y (ws_ y b L r)) := by
  refine lw_app ?_ (lw_meth h4)
  intro w hw
  simp only [List.mem_cons, List.not_mem_nil, or_false] at hw
  rcases hw with e | e | e
  · rw [e]; exact h1
  · rw [e]; exact h2
  · rw [e]; exact h3
/-- the words of a contract for a method WITH HANDLERS (hh: its table) -/
abbrev wsW_ (y : MethodName) (b : ByteArray) (L : Nat) (r : Option FieldType) (hh : List (Nat × Nat × Nat × Nat)) : List Cond := Cond.codeWith y b L r hh :: lw_all
theorem lw_methW {y : MethodName} {b : ByteArray} {L : Nat} {r : Option FieldType} {hh : List (Nat × Nat × Nat × Nat)} (h : Cond.codeWith y b L r hh ∈ lw_all) : GoodIn lw_all (wsW_ y b L r hh) := by
  intro w hw
  rcases List.mem_cons.mp hw with e | e
  · rw [e]
    exact lw_self _ h
  · exact lw_self _ e
/-- any list of words by their places (lw_in), good -/
theorem lw_good {ws : List Cond} (h : ∀ w ∈ ws, w ∈ lw_all) : GoodIn lw_all ws := fun w hw => lw_self w (h w hw)
/-- what a call of a method with handlers asks: vx_cwVW n hts (lw_VW ..), vx_cwSW n hts (lw_SW ..) -/
theorem lw_VW {own : String} {idx : Nat} {C : String} {y : MethodName} {b : ByteArray} {L : Nat} {r : Option FieldType} {hh : List (Nat × Nat × Nat × Nat)} (h1 : Cond.methodLink own idx y ∈ lw_all) (h2 : Cond.instanceMethod y ∈ lw_all) (h3 : Cond.selects C y y ∈ lw_all) (h4 : Cond.initialized C ∈ lw_all) (h5 : Cond.codeWith y b L r hh ∈ lw_all) : GoodIn lw_all (wsV own idx C y (wsW_ y b L r hh)) := by
  refine lw_app ?_ (lw_methW h5)
  intro w hw
  simp only [List.mem_cons, List.not_mem_nil, or_false] at hw
  rcases hw with e | e | e | e
  · rw [e]; exact h1
  · rw [e]; exact h2
  · rw [e]; exact h3
  · rw [e]; exact h4
theorem lw_SW {own : String} {idx : Nat} {y : MethodName} {b : ByteArray} {L : Nat} {r : Option FieldType} {hh : List (Nat × Nat × Nat × Nat)} (h1 : Cond.methodLink own idx y ∈ lw_all) (h2 : Cond.static y ∈ lw_all) (h3 : Cond.initialized y.cls ∈ lw_all) (h4 : Cond.codeWith y b L r hh ∈ lw_all) : GoodIn lw_all (va_wsS own idx y (wsW_ y b L r hh)) := by
  refine lw_app ?_ (lw_methW h4)
  intro w hw
  simp only [List.mem_cons, List.not_mem_nil, or_false] at hw
  rcases hw with e | e | e
  · rw [e]; exact h1
  · rw [e]; exact h2
  · rw [e]; exact h3
/-- a word by its place in its run of the tables -/
theorem lw_at {r : List Cond} (hr : ∀ w ∈ r, w ∈ lw_tbl) {w : Cond} (i : Nat) (h : r[i]? = some w) : w ∈ lw_tbl := hr w (List.mem_of_getElem? h)
theorem lw_g {w : Cond} (h : w ∈ lw_tbl) (g : goodWord w = true) : w ∈ lw_all := List.mem_filter.mpr ⟨h, g⟩
theorem lw_ms : ∀ w ∈ k2_sels lw_privs, w ∈ lw_tbl := fun w h => show w ∈ k2_sels lw_privs ++ tables_1 from List.mem_append_left _ h
theorem lw_m1 : ∀ w ∈ tables_1_1, w ∈ lw_tbl := fun w h => show w ∈ k2_sels lw_privs ++ tables_1 from List.mem_append_right (k2_sels lw_privs) (show w ∈ tables_1 from List.mem_append_left _ h)
theorem lw_m2 : ∀ w ∈ tables_1_2, w ∈ lw_tbl := fun w h => show w ∈ k2_sels lw_privs ++ tables_1 from List.mem_append_right (k2_sels lw_privs) (show w ∈ tables_1 from List.mem_append_right _ h)
theorem qs0 : (Cond.selects "CausalStore" ⟨"CausalStore", "arrive", "(II)I"⟩ ⟨"CausalStore", "arrive", "(II)I"⟩) ∈ lw_all := lw_g (lw_at lw_ms 0 rfl) rfl
theorem qs1 : (Cond.selects "CausalStore" ⟨"CausalStore", "show", "(II)V"⟩ ⟨"CausalStore", "show", "(II)V"⟩) ∈ lw_all := lw_g (lw_at lw_ms 1 rfl) rfl
theorem qs2 : (Cond.selects "CausalStore" ⟨"CausalStore", "beats", "(II)Z"⟩ ⟨"CausalStore", "beats", "(II)Z"⟩) ∈ lw_all := lw_g (lw_at lw_ms 2 rfl) rfl
theorem qs3 : (Cond.selects "CausalStore" ⟨"CausalStore", "lower", "(II)V"⟩ ⟨"CausalStore", "lower", "(II)V"⟩) ∈ lw_all := lw_g (lw_at lw_ms 3 rfl) rfl
theorem qs4 : (Cond.selects "CausalStore" ⟨"CausalStore", "see", "(II)V"⟩ ⟨"CausalStore", "see", "(II)V"⟩) ∈ lw_all := lw_g (lw_at lw_ms 4 rfl) rfl
theorem qs5 : (Cond.selects "CausalStore" ⟨"CausalStore", "noVersion", "(I)Z"⟩ ⟨"CausalStore", "noVersion", "(I)Z"⟩) ∈ lw_all := lw_g (lw_at lw_ms 5 rfl) rfl
theorem qs6 : (Cond.selects "CausalStoreModel" ⟨"CausalStoreModel", "three", "(I)Z"⟩ ⟨"CausalStoreModel", "three", "(I)Z"⟩) ∈ lw_all := lw_g (lw_at lw_ms 6 rfl) rfl
theorem qs7 : (Cond.selects "CausalStoreModel" ⟨"CausalStoreModel", "isKey", "(I)Z"⟩ ⟨"CausalStoreModel", "isKey", "(I)Z"⟩) ∈ lw_all := lw_g (lw_at lw_ms 7 rfl) rfl
theorem qs8 : (Cond.selects "CausalStoreModel" ⟨"CausalStoreModel", "sweep", "(I)I"⟩ ⟨"CausalStoreModel", "sweep", "(I)I"⟩) ∈ lw_all := lw_g (lw_at lw_ms 8 rfl) rfl
theorem qs9 : (Cond.selects "CausalStoreModel" ⟨"CausalStoreModel", "allNeeded", "(I)Z"⟩ ⟨"CausalStoreModel", "allNeeded", "(I)Z"⟩) ∈ lw_all := lw_g (lw_at lw_ms 9 rfl) rfl
theorem qs10 : (Cond.selects "CausalStoreModel" ⟨"CausalStoreModel", "isVersion", "(I)Z"⟩ ⟨"CausalStoreModel", "isVersion", "(I)Z"⟩) ∈ lw_all := lw_g (lw_at lw_ms 10 rfl) rfl
end
section
/-! java/lang/Object -/
set_option maxRecDepth 100000
def RJ0 : String := "java/lang/Object"
abbrev cJ0_init : ByteArray := object_method_1_code
def yJ0_init : MethodName := ⟨RJ0, "<init>", "()V"⟩
theorem q20 : (Jvm.Cond.instanceMethod ({ cls := "java/lang/Object", name := "<init>", desc := "()V" } : Jvm.MethodName)) ∈ lw_all := lw_g (lw_at lw_m1 9 rfl) rfl
theorem q21 : (Jvm.Cond.code ({ cls := "java/lang/Object", name := "<init>", desc := "()V" } : Jvm.MethodName) object_method_1_code (1 : Nat) (Option.none : Option Jvm.ClassFile.FieldType)) ∈ lw_all := lw_g (lw_at lw_m1 10 rfl) rfl

theorem q65 : (Jvm.Cond.arrayClass Jvm.ClassFile.FieldType.int) ∈ lw_all := lw_g (lw_at lw_m1 54 rfl) rfl
theorem q66 : (Jvm.Cond.arrayClass Jvm.ClassFile.FieldType.long) ∈ lw_all := lw_g (lw_at lw_m1 55 rfl) rfl
theorem q190 : (Jvm.Cond.arrayClass Jvm.ClassFile.FieldType.boolean) ∈ lw_all := lw_g (lw_at lw_m1 179 rfl) rfl

/-! CausalStore -/
set_option maxRecDepth 100000
def RX0 : String := "CausalStore"
def TX0 : u_T := fun k => match k with
  | 0 => ("CausalStore", "versions", "I", false)
  | 1 => ("CausalStore", "keyOf", "[I", true)
  | 2 => ("CausalStore", "valueOf", "[I", true)
  | 3 => ("CausalStore", "stampOf", "[I", true)
  | 4 => ("CausalStore", "dependsOn", "[J", true)
  | 5 => ("CausalStore", "come", "[J", true)
  | 6 => ("CausalStore", "shown", "[J", true)
  | 7 => ("CausalStore", "lacks", "[I", true)
  | 8 => ("CausalStore", "best", "[I", true)
  | 9 => ("CausalStore", "place", "[I", true)
  | 10 => ("CausalStore", "seenSet", "[J", true)
  | 11 => ("CausalStore", "seenStamp", "[I", true)
  | 12 => ("CausalStore", "chain", "[I", true)
  | _ => ("CausalStore", "chained", "I", false)
def tyX0 : Nat → FieldType := fun k => match k with
  | 0 => .int
  | 1 => .array .int
  | 2 => .array .int
  | 3 => .array .int
  | 4 => .array .long
  | 5 => .array .long
  | 6 => .array .long
  | 7 => .array .int
  | 8 => .array .int
  | 9 => .array .int
  | 10 => .array .long
  | 11 => .array .int
  | 12 => .array .int
  | _ => .int
abbrev wsX00 : List Cond := u_ws RX0 TX0 14
set_option maxRecDepth 100000 in
theorem nmX0 : ∀ a, a < 14 → ∀ b, b < 14 → a ≠ b → (TX0 a).2.1 ≠ (TX0 b).2.1 := by decide +kernel
set_option maxRecDepth 100000 in
theorem tyX0_ok : ∀ k, k < 14 → parseFieldDescriptor (TX0 k).2.2.1 = some (tyX0 k) := by decide +kernel
abbrev cX0_init : ByteArray := prog_1_method_1_code
def yX0_init : MethodName := ⟨RX0, "<init>", "()V"⟩
abbrev cX0_write : ByteArray := prog_1_method_12_code
def yX0_write : MethodName := ⟨RX0, "write", "(III)I"⟩
abbrev cX0_badClient : ByteArray := prog_1_method_2_code
def yX0_badClient : MethodName := ⟨RX0, "badClient", "(I)Z"⟩
abbrev cX0_arrive : ByteArray := prog_1_method_10_code
def yX0_arrive : MethodName := ⟨RX0, "arrive", "(II)I"⟩
abbrev cX0_bits : ByteArray := prog_1_method_6_code
def yX0_bits : MethodName := ⟨RX0, "bits", "(J)I"⟩
abbrev cX0_show : ByteArray := prog_1_method_8_code
def yX0_show : MethodName := ⟨RX0, "show", "(II)V"⟩
abbrev cX0_beats : ByteArray := prog_1_method_7_code
def yX0_beats : MethodName := ⟨RX0, "beats", "(II)Z"⟩
abbrev cX0_has : ByteArray := prog_1_method_5_code
def yX0_has : MethodName := ⟨RX0, "has", "(JI)Z"⟩
abbrev cX0_lower : ByteArray := prog_1_method_9_code
def yX0_lower : MethodName := ⟨RX0, "lower", "(II)V"⟩
abbrev cX0_see : ByteArray := prog_1_method_11_code
def yX0_see : MethodName := ⟨RX0, "see", "(II)V"⟩
abbrev cX0_read : ByteArray := prog_1_method_13_code
def yX0_read : MethodName := ⟨RX0, "read", "(II)I"⟩
abbrev cX0_move : ByteArray := prog_1_method_14_code
def yX0_move : MethodName := ⟨RX0, "move", "(II)I"⟩
abbrev cX0_badCentre : ByteArray := prog_1_method_3_code
def yX0_badCentre : MethodName := ⟨RX0, "badCentre", "(I)Z"⟩
abbrev cX0_deliver : ByteArray := prog_1_method_15_code
def yX0_deliver : MethodName := ⟨RX0, "deliver", "(II)I"⟩
abbrev cX0_noVersion : ByteArray := prog_1_method_4_code
def yX0_noVersion : MethodName := ⟨RX0, "noVersion", "(I)Z"⟩
abbrev cX0_deliverAll : ByteArray := prog_1_method_16_code
def yX0_deliverAll : MethodName := ⟨RX0, "deliverAll", "(I)I"⟩
abbrev cX0_visible : ByteArray := prog_1_method_17_code
def yX0_visible : MethodName := ⟨RX0, "visible", "(II)Z"⟩
abbrev cX0_winner : ByteArray := prog_1_method_18_code
def yX0_winner : MethodName := ⟨RX0, "winner", "(II)I"⟩
abbrev cX0_value : ByteArray := prog_1_method_19_code
def yX0_value : MethodName := ⟨RX0, "value", "(I)I"⟩
abbrev cX0_stamp : ByteArray := prog_1_method_20_code
def yX0_stamp : MethodName := ⟨RX0, "stamp", "(I)I"⟩
abbrev cX0_depends : ByteArray := prog_1_method_21_code
def yX0_depends : MethodName := ⟨RX0, "depends", "(II)Z"⟩
abbrev cX0_held : ByteArray := prog_1_method_22_code
def yX0_held : MethodName := ⟨RX0, "held", "(I)I"⟩
abbrev cX0_seen : ByteArray := prog_1_method_23_code
def yX0_seen : MethodName := ⟨RX0, "seen", "(I)I"⟩
abbrev cX0_agree : ByteArray := prog_1_method_24_code
def yX0_agree : MethodName := ⟨RX0, "agree", "(II)I"⟩
theorem q12 : (Jvm.Cond.initialized "CausalStore") ∈ lw_all := lw_g (lw_at lw_m1 1 rfl) rfl
theorem q15 : (Jvm.Cond.instantiable "CausalStore" (14 : Nat)) ∈ lw_all := lw_g (lw_at lw_m1 4 rfl) rfl
theorem q17 : (Jvm.Cond.instanceMethod ({ cls := "CausalStore", name := "<init>", desc := "()V" } : Jvm.MethodName)) ∈ lw_all := lw_g (lw_at lw_m1 6 rfl) rfl
theorem q18 : (Jvm.Cond.code ({ cls := "CausalStore", name := "<init>", desc := "()V" } : Jvm.MethodName) prog_1_method_1_code (2 : Nat) (Option.none : Option Jvm.ClassFile.FieldType)) ∈ lw_all := lw_g (lw_at lw_m1 7 rfl) rfl
theorem q19 : (Jvm.Cond.methodLink "CausalStore" (1 : Nat) ({ cls := "java/lang/Object", name := "<init>", desc := "()V" } : Jvm.MethodName)) ∈ lw_all := lw_g (lw_at lw_m1 8 rfl) rfl
theorem q22 : (Jvm.Cond.fieldLink "CausalStore" (47 : Nat) "CausalStore" "versions" "I") ∈ lw_all := lw_g (lw_at lw_m1 11 rfl) rfl
theorem q23 : (Jvm.Cond.fieldLink "CausalStore" (7 : Nat) "CausalStore" "keyOf" "[I") ∈ lw_all := lw_g (lw_at lw_m1 12 rfl) rfl
theorem q24 : (Jvm.Cond.fieldLink "CausalStore" (13 : Nat) "CausalStore" "valueOf" "[I") ∈ lw_all := lw_g (lw_at lw_m1 13 rfl) rfl
theorem q25 : (Jvm.Cond.fieldLink "CausalStore" (16 : Nat) "CausalStore" "stampOf" "[I") ∈ lw_all := lw_g (lw_at lw_m1 14 rfl) rfl
theorem q26 : (Jvm.Cond.fieldLink "CausalStore" (19 : Nat) "CausalStore" "dependsOn" "[J") ∈ lw_all := lw_g (lw_at lw_m1 15 rfl) rfl
theorem q27 : (Jvm.Cond.fieldLink "CausalStore" (23 : Nat) "CausalStore" "come" "[J") ∈ lw_all := lw_g (lw_at lw_m1 16 rfl) rfl
theorem q28 : (Jvm.Cond.fieldLink "CausalStore" (26 : Nat) "CausalStore" "shown" "[J") ∈ lw_all := lw_g (lw_at lw_m1 17 rfl) rfl
theorem q29 : (Jvm.Cond.fieldLink "CausalStore" (29 : Nat) "CausalStore" "lacks" "[I") ∈ lw_all := lw_g (lw_at lw_m1 18 rfl) rfl
theorem q30 : (Jvm.Cond.fieldLink "CausalStore" (32 : Nat) "CausalStore" "best" "[I") ∈ lw_all := lw_g (lw_at lw_m1 19 rfl) rfl
theorem q31 : (Jvm.Cond.fieldLink "CausalStore" (35 : Nat) "CausalStore" "place" "[I") ∈ lw_all := lw_g (lw_at lw_m1 20 rfl) rfl
theorem q32 : (Jvm.Cond.fieldLink "CausalStore" (38 : Nat) "CausalStore" "seenSet" "[J") ∈ lw_all := lw_g (lw_at lw_m1 21 rfl) rfl
theorem q33 : (Jvm.Cond.fieldLink "CausalStore" (41 : Nat) "CausalStore" "seenStamp" "[I") ∈ lw_all := lw_g (lw_at lw_m1 22 rfl) rfl
theorem q34 : (Jvm.Cond.fieldLink "CausalStore" (44 : Nat) "CausalStore" "chain" "[I") ∈ lw_all := lw_g (lw_at lw_m1 23 rfl) rfl
theorem q35 : (Jvm.Cond.fieldLink "CausalStore" (63 : Nat) "CausalStore" "chained" "I") ∈ lw_all := lw_g (lw_at lw_m1 24 rfl) rfl
theorem q36 : (Jvm.Cond.lays "CausalStore" "CausalStore" "versions" "I") ∈ lw_all := lw_g (lw_at lw_m1 25 rfl) rfl
theorem q37 : (Jvm.Cond.soleField "CausalStore" "versions") ∈ lw_all := lw_g (lw_at lw_m1 26 rfl) rfl
theorem q38 : (Jvm.Cond.laysFinal "CausalStore" "CausalStore" "keyOf" "[I") ∈ lw_all := lw_g (lw_at lw_m1 27 rfl) rfl
theorem q39 : (Jvm.Cond.soleField "CausalStore" "keyOf") ∈ lw_all := lw_g (lw_at lw_m1 28 rfl) rfl
theorem q40 : (Jvm.Cond.laysFinal "CausalStore" "CausalStore" "valueOf" "[I") ∈ lw_all := lw_g (lw_at lw_m1 29 rfl) rfl
theorem q41 : (Jvm.Cond.soleField "CausalStore" "valueOf") ∈ lw_all := lw_g (lw_at lw_m1 30 rfl) rfl
theorem q42 : (Jvm.Cond.laysFinal "CausalStore" "CausalStore" "stampOf" "[I") ∈ lw_all := lw_g (lw_at lw_m1 31 rfl) rfl
theorem q43 : (Jvm.Cond.soleField "CausalStore" "stampOf") ∈ lw_all := lw_g (lw_at lw_m1 32 rfl) rfl
theorem q44 : (Jvm.Cond.laysFinal "CausalStore" "CausalStore" "dependsOn" "[J") ∈ lw_all := lw_g (lw_at lw_m1 33 rfl) rfl
theorem q45 : (Jvm.Cond.soleField "CausalStore" "dependsOn") ∈ lw_all := lw_g (lw_at lw_m1 34 rfl) rfl
theorem q46 : (Jvm.Cond.laysFinal "CausalStore" "CausalStore" "come" "[J") ∈ lw_all := lw_g (lw_at lw_m1 35 rfl) rfl
theorem q47 : (Jvm.Cond.soleField "CausalStore" "come") ∈ lw_all := lw_g (lw_at lw_m1 36 rfl) rfl
theorem q48 : (Jvm.Cond.laysFinal "CausalStore" "CausalStore" "shown" "[J") ∈ lw_all := lw_g (lw_at lw_m1 37 rfl) rfl
theorem q49 : (Jvm.Cond.soleField "CausalStore" "shown") ∈ lw_all := lw_g (lw_at lw_m1 38 rfl) rfl
theorem q50 : (Jvm.Cond.laysFinal "CausalStore" "CausalStore" "lacks" "[I") ∈ lw_all := lw_g (lw_at lw_m1 39 rfl) rfl
theorem q51 : (Jvm.Cond.soleField "CausalStore" "lacks") ∈ lw_all := lw_g (lw_at lw_m1 40 rfl) rfl
theorem q52 : (Jvm.Cond.laysFinal "CausalStore" "CausalStore" "best" "[I") ∈ lw_all := lw_g (lw_at lw_m1 41 rfl) rfl
theorem q53 : (Jvm.Cond.soleField "CausalStore" "best") ∈ lw_all := lw_g (lw_at lw_m1 42 rfl) rfl
theorem q54 : (Jvm.Cond.laysFinal "CausalStore" "CausalStore" "place" "[I") ∈ lw_all := lw_g (lw_at lw_m1 43 rfl) rfl
theorem q55 : (Jvm.Cond.soleField "CausalStore" "place") ∈ lw_all := lw_g (lw_at lw_m1 44 rfl) rfl
theorem q56 : (Jvm.Cond.laysFinal "CausalStore" "CausalStore" "seenSet" "[J") ∈ lw_all := lw_g (lw_at lw_m1 45 rfl) rfl
theorem q57 : (Jvm.Cond.soleField "CausalStore" "seenSet") ∈ lw_all := lw_g (lw_at lw_m1 46 rfl) rfl
theorem q58 : (Jvm.Cond.laysFinal "CausalStore" "CausalStore" "seenStamp" "[I") ∈ lw_all := lw_g (lw_at lw_m1 47 rfl) rfl
theorem q59 : (Jvm.Cond.soleField "CausalStore" "seenStamp") ∈ lw_all := lw_g (lw_at lw_m1 48 rfl) rfl
theorem q60 : (Jvm.Cond.laysFinal "CausalStore" "CausalStore" "chain" "[I") ∈ lw_all := lw_g (lw_at lw_m1 49 rfl) rfl
theorem q61 : (Jvm.Cond.soleField "CausalStore" "chain") ∈ lw_all := lw_g (lw_at lw_m1 50 rfl) rfl
theorem q62 : (Jvm.Cond.lays "CausalStore" "CausalStore" "chained" "I") ∈ lw_all := lw_g (lw_at lw_m1 51 rfl) rfl
theorem q63 : (Jvm.Cond.soleField "CausalStore" "chained") ∈ lw_all := lw_g (lw_at lw_m1 52 rfl) rfl
theorem q64 : (Jvm.Cond.superclass "CausalStore" "java/lang/Object") ∈ lw_all := lw_g (lw_at lw_m1 53 rfl) rfl
theorem q68 : (Jvm.Cond.instanceMethod ({ cls := "CausalStore", name := "write", desc := "(III)I" } : Jvm.MethodName)) ∈ lw_all := lw_g (lw_at lw_m1 57 rfl) rfl
theorem q69 : (Jvm.Cond.selects "CausalStore" ({ cls := "CausalStore", name := "write", desc := "(III)I" } : Jvm.MethodName) ({ cls := "CausalStore", name := "write", desc := "(III)I" } : Jvm.MethodName)) ∈ lw_all := lw_g (lw_at lw_m1 58 rfl) rfl
theorem q70 : (Jvm.Cond.code ({ cls := "CausalStore", name := "write", desc := "(III)I" } : Jvm.MethodName) prog_1_method_12_code (5 : Nat) (Option.some Jvm.ClassFile.FieldType.int)) ∈ lw_all := lw_g (lw_at lw_m1 59 rfl) rfl
theorem q71 : (Jvm.Cond.methodLink "CausalStore" (75 : Nat) ({ cls := "CausalStore", name := "badClient", desc := "(I)Z" } : Jvm.MethodName)) ∈ lw_all := lw_g (lw_at lw_m1 60 rfl) rfl
theorem q72 : (Jvm.Cond.static ({ cls := "CausalStore", name := "badClient", desc := "(I)Z" } : Jvm.MethodName)) ∈ lw_all := lw_g (lw_at lw_m1 61 rfl) rfl
theorem q73 : (Jvm.Cond.code ({ cls := "CausalStore", name := "badClient", desc := "(I)Z" } : Jvm.MethodName) prog_1_method_2_code (1 : Nat) (Option.some Jvm.ClassFile.FieldType.boolean)) ∈ lw_all := lw_g (lw_at lw_m1 62 rfl) rfl
theorem q74 : (Jvm.Cond.methodLink "CausalStore" (79 : Nat) ({ cls := "CausalStore", name := "arrive", desc := "(II)I" } : Jvm.MethodName)) ∈ lw_all := lw_g (lw_at lw_m1 63 rfl) rfl
theorem q75 : (Jvm.Cond.privateMethod ({ cls := "CausalStore", name := "arrive", desc := "(II)I" } : Jvm.MethodName)) ∈ lw_tbl := lw_at lw_m1 64 rfl
theorem q76 : (Jvm.Cond.instanceMethod ({ cls := "CausalStore", name := "arrive", desc := "(II)I" } : Jvm.MethodName)) ∈ lw_all := lw_g (lw_at lw_m1 65 rfl) rfl
theorem q77 : (Jvm.Cond.code ({ cls := "CausalStore", name := "arrive", desc := "(II)I" } : Jvm.MethodName) prog_1_method_10_code (4 : Nat) (Option.some Jvm.ClassFile.FieldType.int)) ∈ lw_all := lw_g (lw_at lw_m1 66 rfl) rfl
theorem q78 : (Jvm.Cond.constantLong "CausalStore" (66 : Nat) (-1 : Int64)) ∈ lw_all := lw_g (lw_at lw_m1 67 rfl) rfl
theorem q79 : (Jvm.Cond.methodLink "CausalStore" (68 : Nat) ({ cls := "CausalStore", name := "bits", desc := "(J)I" } : Jvm.MethodName)) ∈ lw_all := lw_g (lw_at lw_m1 68 rfl) rfl
theorem q80 : (Jvm.Cond.static ({ cls := "CausalStore", name := "bits", desc := "(J)I" } : Jvm.MethodName)) ∈ lw_all := lw_g (lw_at lw_m1 69 rfl) rfl
theorem q81 : (Jvm.Cond.code ({ cls := "CausalStore", name := "bits", desc := "(J)I" } : Jvm.MethodName) prog_1_method_6_code (4 : Nat) (Option.some Jvm.ClassFile.FieldType.int)) ∈ lw_all := lw_g (lw_at lw_m1 70 rfl) rfl
theorem q82 : (Jvm.Cond.methodLink "CausalStore" (72 : Nat) ({ cls := "CausalStore", name := "show", desc := "(II)V" } : Jvm.MethodName)) ∈ lw_all := lw_g (lw_at lw_m1 71 rfl) rfl
theorem q83 : (Jvm.Cond.privateMethod ({ cls := "CausalStore", name := "show", desc := "(II)V" } : Jvm.MethodName)) ∈ lw_tbl := lw_at lw_m1 72 rfl
theorem q84 : (Jvm.Cond.instanceMethod ({ cls := "CausalStore", name := "show", desc := "(II)V" } : Jvm.MethodName)) ∈ lw_all := lw_g (lw_at lw_m1 73 rfl) rfl
theorem q85 : (Jvm.Cond.code ({ cls := "CausalStore", name := "show", desc := "(II)V" } : Jvm.MethodName) prog_1_method_8_code (7 : Nat) (Option.none : Option Jvm.ClassFile.FieldType)) ∈ lw_all := lw_g (lw_at lw_m1 74 rfl) rfl
theorem q86 : (Jvm.Cond.methodLink "CausalStore" (51 : Nat) ({ cls := "CausalStore", name := "beats", desc := "(II)Z" } : Jvm.MethodName)) ∈ lw_all := lw_g (lw_at lw_m1 75 rfl) rfl
theorem q87 : (Jvm.Cond.privateMethod ({ cls := "CausalStore", name := "beats", desc := "(II)Z" } : Jvm.MethodName)) ∈ lw_tbl := lw_at lw_m1 76 rfl
theorem q88 : (Jvm.Cond.instanceMethod ({ cls := "CausalStore", name := "beats", desc := "(II)Z" } : Jvm.MethodName)) ∈ lw_all := lw_g (lw_at lw_m1 77 rfl) rfl
theorem q89 : (Jvm.Cond.code ({ cls := "CausalStore", name := "beats", desc := "(II)Z" } : Jvm.MethodName) prog_1_method_7_code (3 : Nat) (Option.some Jvm.ClassFile.FieldType.boolean)) ∈ lw_all := lw_g (lw_at lw_m1 78 rfl) rfl
theorem q90 : (Jvm.Cond.methodLink "CausalStore" (55 : Nat) ({ cls := "CausalStore", name := "has", desc := "(JI)Z" } : Jvm.MethodName)) ∈ lw_all := lw_g (lw_at lw_m1 79 rfl) rfl
theorem q91 : (Jvm.Cond.static ({ cls := "CausalStore", name := "has", desc := "(JI)Z" } : Jvm.MethodName)) ∈ lw_all := lw_g (lw_at lw_m1 80 rfl) rfl
theorem q92 : (Jvm.Cond.code ({ cls := "CausalStore", name := "has", desc := "(JI)Z" } : Jvm.MethodName) prog_1_method_5_code (3 : Nat) (Option.some Jvm.ClassFile.FieldType.boolean)) ∈ lw_all := lw_g (lw_at lw_m1 81 rfl) rfl
theorem q93 : (Jvm.Cond.methodLink "CausalStore" (59 : Nat) ({ cls := "CausalStore", name := "lower", desc := "(II)V" } : Jvm.MethodName)) ∈ lw_all := lw_g (lw_at lw_m1 82 rfl) rfl
theorem q94 : (Jvm.Cond.privateMethod ({ cls := "CausalStore", name := "lower", desc := "(II)V" } : Jvm.MethodName)) ∈ lw_tbl := lw_at lw_m1 83 rfl
theorem q95 : (Jvm.Cond.instanceMethod ({ cls := "CausalStore", name := "lower", desc := "(II)V" } : Jvm.MethodName)) ∈ lw_all := lw_g (lw_at lw_m1 84 rfl) rfl
theorem q96 : (Jvm.Cond.code ({ cls := "CausalStore", name := "lower", desc := "(II)V" } : Jvm.MethodName) prog_1_method_9_code (3 : Nat) (Option.none : Option Jvm.ClassFile.FieldType)) ∈ lw_all := lw_g (lw_at lw_m1 85 rfl) rfl
theorem q97 : (Jvm.Cond.methodLink "CausalStore" (83 : Nat) ({ cls := "CausalStore", name := "see", desc := "(II)V" } : Jvm.MethodName)) ∈ lw_all := lw_g (lw_at lw_m1 86 rfl) rfl
theorem q98 : (Jvm.Cond.privateMethod ({ cls := "CausalStore", name := "see", desc := "(II)V" } : Jvm.MethodName)) ∈ lw_tbl := lw_at lw_m1 87 rfl
theorem q99 : (Jvm.Cond.instanceMethod ({ cls := "CausalStore", name := "see", desc := "(II)V" } : Jvm.MethodName)) ∈ lw_all := lw_g (lw_at lw_m1 88 rfl) rfl
theorem q100 : (Jvm.Cond.code ({ cls := "CausalStore", name := "see", desc := "(II)V" } : Jvm.MethodName) prog_1_method_11_code (3 : Nat) (Option.none : Option Jvm.ClassFile.FieldType)) ∈ lw_all := lw_g (lw_at lw_m1 89 rfl) rfl
theorem q102 : (Jvm.Cond.instanceMethod ({ cls := "CausalStore", name := "read", desc := "(II)I" } : Jvm.MethodName)) ∈ lw_all := lw_g (lw_at lw_m1 91 rfl) rfl
theorem q103 : (Jvm.Cond.selects "CausalStore" ({ cls := "CausalStore", name := "read", desc := "(II)I" } : Jvm.MethodName) ({ cls := "CausalStore", name := "read", desc := "(II)I" } : Jvm.MethodName)) ∈ lw_all := lw_g (lw_at lw_m1 92 rfl) rfl
theorem q104 : (Jvm.Cond.code ({ cls := "CausalStore", name := "read", desc := "(II)I" } : Jvm.MethodName) prog_1_method_13_code (4 : Nat) (Option.some Jvm.ClassFile.FieldType.int)) ∈ lw_all := lw_g (lw_at lw_m1 93 rfl) rfl
theorem q106 : (Jvm.Cond.instanceMethod ({ cls := "CausalStore", name := "move", desc := "(II)I" } : Jvm.MethodName)) ∈ lw_all := lw_g (lw_at lw_m1 95 rfl) rfl
theorem q107 : (Jvm.Cond.selects "CausalStore" ({ cls := "CausalStore", name := "move", desc := "(II)I" } : Jvm.MethodName) ({ cls := "CausalStore", name := "move", desc := "(II)I" } : Jvm.MethodName)) ∈ lw_all := lw_g (lw_at lw_m1 96 rfl) rfl
theorem q108 : (Jvm.Cond.code ({ cls := "CausalStore", name := "move", desc := "(II)I" } : Jvm.MethodName) prog_1_method_14_code (3 : Nat) (Option.some Jvm.ClassFile.FieldType.int)) ∈ lw_all := lw_g (lw_at lw_m1 97 rfl) rfl
theorem q109 : (Jvm.Cond.methodLink "CausalStore" (86 : Nat) ({ cls := "CausalStore", name := "badCentre", desc := "(I)Z" } : Jvm.MethodName)) ∈ lw_all := lw_g (lw_at lw_m1 98 rfl) rfl
theorem q110 : (Jvm.Cond.static ({ cls := "CausalStore", name := "badCentre", desc := "(I)Z" } : Jvm.MethodName)) ∈ lw_all := lw_g (lw_at lw_m1 99 rfl) rfl
theorem q111 : (Jvm.Cond.code ({ cls := "CausalStore", name := "badCentre", desc := "(I)Z" } : Jvm.MethodName) prog_1_method_3_code (1 : Nat) (Option.some Jvm.ClassFile.FieldType.boolean)) ∈ lw_all := lw_g (lw_at lw_m1 100 rfl) rfl
theorem q113 : (Jvm.Cond.instanceMethod ({ cls := "CausalStore", name := "deliver", desc := "(II)I" } : Jvm.MethodName)) ∈ lw_all := lw_g (lw_at lw_m1 102 rfl) rfl
theorem q114 : (Jvm.Cond.selects "CausalStore" ({ cls := "CausalStore", name := "deliver", desc := "(II)I" } : Jvm.MethodName) ({ cls := "CausalStore", name := "deliver", desc := "(II)I" } : Jvm.MethodName)) ∈ lw_all := lw_g (lw_at lw_m1 103 rfl) rfl
theorem q115 : (Jvm.Cond.code ({ cls := "CausalStore", name := "deliver", desc := "(II)I" } : Jvm.MethodName) prog_1_method_15_code (3 : Nat) (Option.some Jvm.ClassFile.FieldType.int)) ∈ lw_all := lw_g (lw_at lw_m1 104 rfl) rfl
theorem q116 : (Jvm.Cond.methodLink "CausalStore" (89 : Nat) ({ cls := "CausalStore", name := "noVersion", desc := "(I)Z" } : Jvm.MethodName)) ∈ lw_all := lw_g (lw_at lw_m1 105 rfl) rfl
theorem q117 : (Jvm.Cond.privateMethod ({ cls := "CausalStore", name := "noVersion", desc := "(I)Z" } : Jvm.MethodName)) ∈ lw_tbl := lw_at lw_m1 106 rfl
theorem q118 : (Jvm.Cond.instanceMethod ({ cls := "CausalStore", name := "noVersion", desc := "(I)Z" } : Jvm.MethodName)) ∈ lw_all := lw_g (lw_at lw_m1 107 rfl) rfl
theorem q119 : (Jvm.Cond.code ({ cls := "CausalStore", name := "noVersion", desc := "(I)Z" } : Jvm.MethodName) prog_1_method_4_code (2 : Nat) (Option.some Jvm.ClassFile.FieldType.boolean)) ∈ lw_all := lw_g (lw_at lw_m1 108 rfl) rfl
theorem q121 : (Jvm.Cond.instanceMethod ({ cls := "CausalStore", name := "deliverAll", desc := "(I)I" } : Jvm.MethodName)) ∈ lw_all := lw_g (lw_at lw_m1 110 rfl) rfl
theorem q122 : (Jvm.Cond.selects "CausalStore" ({ cls := "CausalStore", name := "deliverAll", desc := "(I)I" } : Jvm.MethodName) ({ cls := "CausalStore", name := "deliverAll", desc := "(I)I" } : Jvm.MethodName)) ∈ lw_all := lw_g (lw_at lw_m1 111 rfl) rfl
theorem q123 : (Jvm.Cond.code ({ cls := "CausalStore", name := "deliverAll", desc := "(I)I" } : Jvm.MethodName) prog_1_method_16_code (5 : Nat) (Option.some Jvm.ClassFile.FieldType.int)) ∈ lw_all := lw_g (lw_at lw_m1 112 rfl) rfl
theorem q125 : (Jvm.Cond.instanceMethod ({ cls := "CausalStore", name := "visible", desc := "(II)Z" } : Jvm.MethodName)) ∈ lw_all := lw_g (lw_at lw_m1 114 rfl) rfl
theorem q126 : (Jvm.Cond.selects "CausalStore" ({ cls := "CausalStore", name := "visible", desc := "(II)Z" } : Jvm.MethodName) ({ cls := "CausalStore", name := "visible", desc := "(II)Z" } : Jvm.MethodName)) ∈ lw_all := lw_g (lw_at lw_m1 115 rfl) rfl
theorem q127 : (Jvm.Cond.code ({ cls := "CausalStore", name := "visible", desc := "(II)Z" } : Jvm.MethodName) prog_1_method_17_code (3 : Nat) (Option.some Jvm.ClassFile.FieldType.boolean)) ∈ lw_all := lw_g (lw_at lw_m1 116 rfl) rfl
theorem q129 : (Jvm.Cond.instanceMethod ({ cls := "CausalStore", name := "winner", desc := "(II)I" } : Jvm.MethodName)) ∈ lw_all := lw_g (lw_at lw_m1 118 rfl) rfl
theorem q130 : (Jvm.Cond.selects "CausalStore" ({ cls := "CausalStore", name := "winner", desc := "(II)I" } : Jvm.MethodName) ({ cls := "CausalStore", name := "winner", desc := "(II)I" } : Jvm.MethodName)) ∈ lw_all := lw_g (lw_at lw_m1 119 rfl) rfl
theorem q131 : (Jvm.Cond.code ({ cls := "CausalStore", name := "winner", desc := "(II)I" } : Jvm.MethodName) prog_1_method_18_code (3 : Nat) (Option.some Jvm.ClassFile.FieldType.int)) ∈ lw_all := lw_g (lw_at lw_m1 120 rfl) rfl
theorem q133 : (Jvm.Cond.instanceMethod ({ cls := "CausalStore", name := "value", desc := "(I)I" } : Jvm.MethodName)) ∈ lw_all := lw_g (lw_at lw_m1 122 rfl) rfl
theorem q134 : (Jvm.Cond.selects "CausalStore" ({ cls := "CausalStore", name := "value", desc := "(I)I" } : Jvm.MethodName) ({ cls := "CausalStore", name := "value", desc := "(I)I" } : Jvm.MethodName)) ∈ lw_all := lw_g (lw_at lw_m1 123 rfl) rfl
theorem q135 : (Jvm.Cond.code ({ cls := "CausalStore", name := "value", desc := "(I)I" } : Jvm.MethodName) prog_1_method_19_code (2 : Nat) (Option.some Jvm.ClassFile.FieldType.int)) ∈ lw_all := lw_g (lw_at lw_m1 124 rfl) rfl
theorem q137 : (Jvm.Cond.instanceMethod ({ cls := "CausalStore", name := "stamp", desc := "(I)I" } : Jvm.MethodName)) ∈ lw_all := lw_g (lw_at lw_m1 126 rfl) rfl
theorem q138 : (Jvm.Cond.selects "CausalStore" ({ cls := "CausalStore", name := "stamp", desc := "(I)I" } : Jvm.MethodName) ({ cls := "CausalStore", name := "stamp", desc := "(I)I" } : Jvm.MethodName)) ∈ lw_all := lw_g (lw_at lw_m1 127 rfl) rfl
theorem q139 : (Jvm.Cond.code ({ cls := "CausalStore", name := "stamp", desc := "(I)I" } : Jvm.MethodName) prog_1_method_20_code (2 : Nat) (Option.some Jvm.ClassFile.FieldType.int)) ∈ lw_all := lw_g (lw_at lw_m1 128 rfl) rfl
theorem q141 : (Jvm.Cond.instanceMethod ({ cls := "CausalStore", name := "depends", desc := "(II)Z" } : Jvm.MethodName)) ∈ lw_all := lw_g (lw_at lw_m1 130 rfl) rfl
theorem q142 : (Jvm.Cond.selects "CausalStore" ({ cls := "CausalStore", name := "depends", desc := "(II)Z" } : Jvm.MethodName) ({ cls := "CausalStore", name := "depends", desc := "(II)Z" } : Jvm.MethodName)) ∈ lw_all := lw_g (lw_at lw_m1 131 rfl) rfl
theorem q143 : (Jvm.Cond.code ({ cls := "CausalStore", name := "depends", desc := "(II)Z" } : Jvm.MethodName) prog_1_method_21_code (3 : Nat) (Option.some Jvm.ClassFile.FieldType.boolean)) ∈ lw_all := lw_g (lw_at lw_m1 132 rfl) rfl
theorem q145 : (Jvm.Cond.instanceMethod ({ cls := "CausalStore", name := "held", desc := "(I)I" } : Jvm.MethodName)) ∈ lw_all := lw_g (lw_at lw_m1 134 rfl) rfl
theorem q146 : (Jvm.Cond.selects "CausalStore" ({ cls := "CausalStore", name := "held", desc := "(I)I" } : Jvm.MethodName) ({ cls := "CausalStore", name := "held", desc := "(I)I" } : Jvm.MethodName)) ∈ lw_all := lw_g (lw_at lw_m1 135 rfl) rfl
theorem q147 : (Jvm.Cond.code ({ cls := "CausalStore", name := "held", desc := "(I)I" } : Jvm.MethodName) prog_1_method_22_code (2 : Nat) (Option.some Jvm.ClassFile.FieldType.int)) ∈ lw_all := lw_g (lw_at lw_m1 136 rfl) rfl
theorem q149 : (Jvm.Cond.instanceMethod ({ cls := "CausalStore", name := "seen", desc := "(I)I" } : Jvm.MethodName)) ∈ lw_all := lw_g (lw_at lw_m1 138 rfl) rfl
theorem q150 : (Jvm.Cond.selects "CausalStore" ({ cls := "CausalStore", name := "seen", desc := "(I)I" } : Jvm.MethodName) ({ cls := "CausalStore", name := "seen", desc := "(I)I" } : Jvm.MethodName)) ∈ lw_all := lw_g (lw_at lw_m1 139 rfl) rfl
theorem q151 : (Jvm.Cond.code ({ cls := "CausalStore", name := "seen", desc := "(I)I" } : Jvm.MethodName) prog_1_method_23_code (2 : Nat) (Option.some Jvm.ClassFile.FieldType.int)) ∈ lw_all := lw_g (lw_at lw_m1 140 rfl) rfl
theorem q153 : (Jvm.Cond.instanceMethod ({ cls := "CausalStore", name := "agree", desc := "(II)I" } : Jvm.MethodName)) ∈ lw_all := lw_g (lw_at lw_m1 142 rfl) rfl
theorem q154 : (Jvm.Cond.selects "CausalStore" ({ cls := "CausalStore", name := "agree", desc := "(II)I" } : Jvm.MethodName) ({ cls := "CausalStore", name := "agree", desc := "(II)I" } : Jvm.MethodName)) ∈ lw_all := lw_g (lw_at lw_m1 143 rfl) rfl
theorem q155 : (Jvm.Cond.code ({ cls := "CausalStore", name := "agree", desc := "(II)I" } : Jvm.MethodName) prog_1_method_24_code (5 : Nat) (Option.some Jvm.ClassFile.FieldType.int)) ∈ lw_all := lw_g (lw_at lw_m1 144 rfl) rfl
theorem in_X0 : ∀ w ∈ wsX00, w ∈ lw_all := lw_in wsX00 [36, 38, 40, 42, 44, 46, 48, 50, 52, 54, 56, 58, 60, 62] (by decide +kernel) (by decide +kernel)

/-! CausalStoreModel -/
set_option maxRecDepth 100000
def RX1 : String := "CausalStoreModel"
def TX1 : u_T := fun k => match k with
  | 0 => ("CausalStoreModel", "versions", "I", false)
  | 1 => ("CausalStoreModel", "keys", "[I", true)
  | 2 => ("CausalStoreModel", "values", "[I", true)
  | 3 => ("CausalStoreModel", "stamps", "[I", true)
  | 4 => ("CausalStoreModel", "needs", "[Z", true)
  | 5 => ("CausalStoreModel", "come", "[Z", true)
  | 6 => ("CausalStoreModel", "hasSeen", "[Z", true)
  | 7 => ("CausalStoreModel", "place", "[I", true)
  | _ => ("CausalStoreModel", "shown", "[Z", true)
def tyX1 : Nat → FieldType := fun k => match k with
  | 0 => .int
  | 1 => .array .int
  | 2 => .array .int
  | 3 => .array .int
  | 4 => .array .boolean
  | 5 => .array .boolean
  | 6 => .array .boolean
  | 7 => .array .int
  | _ => .array .boolean
abbrev wsX10 : List Cond := u_ws RX1 TX1 9
theorem nmX1 : ∀ a, a < 9 → ∀ b, b < 9 → a ≠ b → (TX1 a).2.1 ≠ (TX1 b).2.1 := by decide +kernel
theorem tyX1_ok : ∀ k, k < 9 → parseFieldDescriptor (TX1 k).2.2.1 = some (tyX1 k) := by decide +kernel
abbrev cX1_init : ByteArray := prog_3_method_1_code
def yX1_init : MethodName := ⟨RX1, "<init>", "()V"⟩
abbrev cX1_write : ByteArray := prog_3_method_7_code
def yX1_write : MethodName := ⟨RX1, "write", "(III)I"⟩
abbrev cX1_three : ByteArray := prog_3_method_2_code
def yX1_three : MethodName := ⟨RX1, "three", "(I)Z"⟩
abbrev cX1_isKey : ByteArray := prog_3_method_3_code
def yX1_isKey : MethodName := ⟨RX1, "isKey", "(I)Z"⟩
abbrev cX1_read : ByteArray := prog_3_method_8_code
def yX1_read : MethodName := ⟨RX1, "read", "(II)I"⟩
abbrev cX1_winner : ByteArray := prog_3_method_13_code
def yX1_winner : MethodName := ⟨RX1, "winner", "(II)I"⟩
abbrev cX1_sweep : ByteArray := prog_3_method_6_code
def yX1_sweep : MethodName := ⟨RX1, "sweep", "(I)I"⟩
abbrev cX1_allNeeded : ByteArray := prog_3_method_5_code
def yX1_allNeeded : MethodName := ⟨RX1, "allNeeded", "(I)Z"⟩
abbrev cX1_move : ByteArray := prog_3_method_9_code
def yX1_move : MethodName := ⟨RX1, "move", "(II)I"⟩
abbrev cX1_deliver : ByteArray := prog_3_method_10_code
def yX1_deliver : MethodName := ⟨RX1, "deliver", "(II)I"⟩
abbrev cX1_isVersion : ByteArray := prog_3_method_4_code
def yX1_isVersion : MethodName := ⟨RX1, "isVersion", "(I)Z"⟩
abbrev cX1_deliverAll : ByteArray := prog_3_method_11_code
def yX1_deliverAll : MethodName := ⟨RX1, "deliverAll", "(I)I"⟩
abbrev cX1_visible : ByteArray := prog_3_method_12_code
def yX1_visible : MethodName := ⟨RX1, "visible", "(II)Z"⟩
abbrev cX1_value : ByteArray := prog_3_method_14_code
def yX1_value : MethodName := ⟨RX1, "value", "(I)I"⟩
abbrev cX1_stamp : ByteArray := prog_3_method_15_code
def yX1_stamp : MethodName := ⟨RX1, "stamp", "(I)I"⟩
abbrev cX1_depends : ByteArray := prog_3_method_16_code
def yX1_depends : MethodName := ⟨RX1, "depends", "(II)Z"⟩
abbrev cX1_held : ByteArray := prog_3_method_17_code
def yX1_held : MethodName := ⟨RX1, "held", "(I)I"⟩
abbrev cX1_seen : ByteArray := prog_3_method_18_code
def yX1_seen : MethodName := ⟨RX1, "seen", "(I)I"⟩
abbrev cX1_agree : ByteArray := prog_3_method_19_code
def yX1_agree : MethodName := ⟨RX1, "agree", "(II)I"⟩
theorem q13 : (Jvm.Cond.initialized "CausalStoreModel") ∈ lw_all := lw_g (lw_at lw_m1 2 rfl) rfl
theorem q157 : (Jvm.Cond.instantiable "CausalStoreModel" (9 : Nat)) ∈ lw_all := lw_g (lw_at lw_m1 146 rfl) rfl
theorem q159 : (Jvm.Cond.instanceMethod ({ cls := "CausalStoreModel", name := "<init>", desc := "()V" } : Jvm.MethodName)) ∈ lw_all := lw_g (lw_at lw_m1 148 rfl) rfl
theorem q160 : (Jvm.Cond.code ({ cls := "CausalStoreModel", name := "<init>", desc := "()V" } : Jvm.MethodName) prog_3_method_1_code (2 : Nat) (Option.none : Option Jvm.ClassFile.FieldType)) ∈ lw_all := lw_g (lw_at lw_m1 149 rfl) rfl
theorem q161 : (Jvm.Cond.methodLink "CausalStoreModel" (1 : Nat) ({ cls := "java/lang/Object", name := "<init>", desc := "()V" } : Jvm.MethodName)) ∈ lw_all := lw_g (lw_at lw_m1 150 rfl) rfl
theorem q162 : (Jvm.Cond.fieldLink "CausalStoreModel" (35 : Nat) "CausalStoreModel" "versions" "I") ∈ lw_all := lw_g (lw_at lw_m1 151 rfl) rfl
theorem q163 : (Jvm.Cond.fieldLink "CausalStoreModel" (7 : Nat) "CausalStoreModel" "keys" "[I") ∈ lw_all := lw_g (lw_at lw_m1 152 rfl) rfl
theorem q164 : (Jvm.Cond.fieldLink "CausalStoreModel" (13 : Nat) "CausalStoreModel" "values" "[I") ∈ lw_all := lw_g (lw_at lw_m1 153 rfl) rfl
theorem q165 : (Jvm.Cond.fieldLink "CausalStoreModel" (16 : Nat) "CausalStoreModel" "stamps" "[I") ∈ lw_all := lw_g (lw_at lw_m1 154 rfl) rfl
theorem q166 : (Jvm.Cond.fieldLink "CausalStoreModel" (19 : Nat) "CausalStoreModel" "needs" "[Z") ∈ lw_all := lw_g (lw_at lw_m1 155 rfl) rfl
theorem q167 : (Jvm.Cond.fieldLink "CausalStoreModel" (23 : Nat) "CausalStoreModel" "come" "[Z") ∈ lw_all := lw_g (lw_at lw_m1 156 rfl) rfl
theorem q168 : (Jvm.Cond.fieldLink "CausalStoreModel" (26 : Nat) "CausalStoreModel" "hasSeen" "[Z") ∈ lw_all := lw_g (lw_at lw_m1 157 rfl) rfl
theorem q169 : (Jvm.Cond.fieldLink "CausalStoreModel" (29 : Nat) "CausalStoreModel" "place" "[I") ∈ lw_all := lw_g (lw_at lw_m1 158 rfl) rfl
theorem q170 : (Jvm.Cond.fieldLink "CausalStoreModel" (32 : Nat) "CausalStoreModel" "shown" "[Z") ∈ lw_all := lw_g (lw_at lw_m1 159 rfl) rfl
theorem q171 : (Jvm.Cond.lays "CausalStoreModel" "CausalStoreModel" "versions" "I") ∈ lw_all := lw_g (lw_at lw_m1 160 rfl) rfl
theorem q172 : (Jvm.Cond.soleField "CausalStoreModel" "versions") ∈ lw_all := lw_g (lw_at lw_m1 161 rfl) rfl
theorem q173 : (Jvm.Cond.laysFinal "CausalStoreModel" "CausalStoreModel" "keys" "[I") ∈ lw_all := lw_g (lw_at lw_m1 162 rfl) rfl
theorem q174 : (Jvm.Cond.soleField "CausalStoreModel" "keys") ∈ lw_all := lw_g (lw_at lw_m1 163 rfl) rfl
theorem q175 : (Jvm.Cond.laysFinal "CausalStoreModel" "CausalStoreModel" "values" "[I") ∈ lw_all := lw_g (lw_at lw_m1 164 rfl) rfl
theorem q176 : (Jvm.Cond.soleField "CausalStoreModel" "values") ∈ lw_all := lw_g (lw_at lw_m1 165 rfl) rfl
theorem q177 : (Jvm.Cond.laysFinal "CausalStoreModel" "CausalStoreModel" "stamps" "[I") ∈ lw_all := lw_g (lw_at lw_m1 166 rfl) rfl
theorem q178 : (Jvm.Cond.soleField "CausalStoreModel" "stamps") ∈ lw_all := lw_g (lw_at lw_m1 167 rfl) rfl
theorem q179 : (Jvm.Cond.laysFinal "CausalStoreModel" "CausalStoreModel" "needs" "[Z") ∈ lw_all := lw_g (lw_at lw_m1 168 rfl) rfl
theorem q180 : (Jvm.Cond.soleField "CausalStoreModel" "needs") ∈ lw_all := lw_g (lw_at lw_m1 169 rfl) rfl
theorem q181 : (Jvm.Cond.laysFinal "CausalStoreModel" "CausalStoreModel" "come" "[Z") ∈ lw_all := lw_g (lw_at lw_m1 170 rfl) rfl
theorem q182 : (Jvm.Cond.soleField "CausalStoreModel" "come") ∈ lw_all := lw_g (lw_at lw_m1 171 rfl) rfl
theorem q183 : (Jvm.Cond.laysFinal "CausalStoreModel" "CausalStoreModel" "hasSeen" "[Z") ∈ lw_all := lw_g (lw_at lw_m1 172 rfl) rfl
theorem q184 : (Jvm.Cond.soleField "CausalStoreModel" "hasSeen") ∈ lw_all := lw_g (lw_at lw_m1 173 rfl) rfl
theorem q185 : (Jvm.Cond.laysFinal "CausalStoreModel" "CausalStoreModel" "place" "[I") ∈ lw_all := lw_g (lw_at lw_m1 174 rfl) rfl
theorem q186 : (Jvm.Cond.soleField "CausalStoreModel" "place") ∈ lw_all := lw_g (lw_at lw_m1 175 rfl) rfl
theorem q187 : (Jvm.Cond.laysFinal "CausalStoreModel" "CausalStoreModel" "shown" "[Z") ∈ lw_all := lw_g (lw_at lw_m1 176 rfl) rfl
theorem q188 : (Jvm.Cond.soleField "CausalStoreModel" "shown") ∈ lw_all := lw_g (lw_at lw_m1 177 rfl) rfl
theorem q189 : (Jvm.Cond.superclass "CausalStoreModel" "java/lang/Object") ∈ lw_all := lw_g (lw_at lw_m1 178 rfl) rfl
theorem q192 : (Jvm.Cond.instanceMethod ({ cls := "CausalStoreModel", name := "write", desc := "(III)I" } : Jvm.MethodName)) ∈ lw_all := lw_g (lw_at lw_m1 181 rfl) rfl
theorem q193 : (Jvm.Cond.selects "CausalStoreModel" ({ cls := "CausalStoreModel", name := "write", desc := "(III)I" } : Jvm.MethodName) ({ cls := "CausalStoreModel", name := "write", desc := "(III)I" } : Jvm.MethodName)) ∈ lw_all := lw_g (lw_at lw_m1 182 rfl) rfl
theorem q194 : (Jvm.Cond.code ({ cls := "CausalStoreModel", name := "write", desc := "(III)I" } : Jvm.MethodName) prog_3_method_7_code (6 : Nat) (Option.some Jvm.ClassFile.FieldType.int)) ∈ lw_all := lw_g (lw_at lw_m1 183 rfl) rfl
theorem q195 : (Jvm.Cond.methodLink "CausalStoreModel" (43 : Nat) ({ cls := "CausalStoreModel", name := "three", desc := "(I)Z" } : Jvm.MethodName)) ∈ lw_all := lw_g (lw_at lw_m1 184 rfl) rfl
theorem q196 : (Jvm.Cond.privateMethod ({ cls := "CausalStoreModel", name := "three", desc := "(I)Z" } : Jvm.MethodName)) ∈ lw_tbl := lw_at lw_m1 185 rfl
theorem q197 : (Jvm.Cond.instanceMethod ({ cls := "CausalStoreModel", name := "three", desc := "(I)Z" } : Jvm.MethodName)) ∈ lw_all := lw_g (lw_at lw_m1 186 rfl) rfl
theorem q198 : (Jvm.Cond.code ({ cls := "CausalStoreModel", name := "three", desc := "(I)Z" } : Jvm.MethodName) prog_3_method_2_code (2 : Nat) (Option.some Jvm.ClassFile.FieldType.boolean)) ∈ lw_all := lw_g (lw_at lw_m1 187 rfl) rfl
theorem q199 : (Jvm.Cond.methodLink "CausalStoreModel" (46 : Nat) ({ cls := "CausalStoreModel", name := "isKey", desc := "(I)Z" } : Jvm.MethodName)) ∈ lw_all := lw_g (lw_at lw_m1 188 rfl) rfl
theorem q200 : (Jvm.Cond.privateMethod ({ cls := "CausalStoreModel", name := "isKey", desc := "(I)Z" } : Jvm.MethodName)) ∈ lw_tbl := lw_at lw_m1 189 rfl
theorem q201 : (Jvm.Cond.instanceMethod ({ cls := "CausalStoreModel", name := "isKey", desc := "(I)Z" } : Jvm.MethodName)) ∈ lw_all := lw_g (lw_at lw_m1 190 rfl) rfl
theorem q202 : (Jvm.Cond.code ({ cls := "CausalStoreModel", name := "isKey", desc := "(I)Z" } : Jvm.MethodName) prog_3_method_3_code (2 : Nat) (Option.some Jvm.ClassFile.FieldType.boolean)) ∈ lw_all := lw_g (lw_at lw_m1 191 rfl) rfl
theorem q204 : (Jvm.Cond.instanceMethod ({ cls := "CausalStoreModel", name := "read", desc := "(II)I" } : Jvm.MethodName)) ∈ lw_all := lw_g (lw_at lw_m1 193 rfl) rfl
theorem q205 : (Jvm.Cond.selects "CausalStoreModel" ({ cls := "CausalStoreModel", name := "read", desc := "(II)I" } : Jvm.MethodName) ({ cls := "CausalStoreModel", name := "read", desc := "(II)I" } : Jvm.MethodName)) ∈ lw_all := lw_g (lw_at lw_m1 194 rfl) rfl
theorem q206 : (Jvm.Cond.code ({ cls := "CausalStoreModel", name := "read", desc := "(II)I" } : Jvm.MethodName) prog_3_method_8_code (4 : Nat) (Option.some Jvm.ClassFile.FieldType.int)) ∈ lw_all := lw_g (lw_at lw_m1 195 rfl) rfl
theorem q207 : (Jvm.Cond.methodLink "CausalStoreModel" (49 : Nat) ({ cls := "CausalStoreModel", name := "winner", desc := "(II)I" } : Jvm.MethodName)) ∈ lw_all := lw_g (lw_at lw_m1 196 rfl) rfl
theorem q208 : (Jvm.Cond.instanceMethod ({ cls := "CausalStoreModel", name := "winner", desc := "(II)I" } : Jvm.MethodName)) ∈ lw_all := lw_g (lw_at lw_m1 197 rfl) rfl
theorem q209 : (Jvm.Cond.selects "CausalStoreModel" ({ cls := "CausalStoreModel", name := "winner", desc := "(II)I" } : Jvm.MethodName) ({ cls := "CausalStoreModel", name := "winner", desc := "(II)I" } : Jvm.MethodName)) ∈ lw_all := lw_g (lw_at lw_m1 198 rfl) rfl
theorem q210 : (Jvm.Cond.code ({ cls := "CausalStoreModel", name := "winner", desc := "(II)I" } : Jvm.MethodName) prog_3_method_13_code (5 : Nat) (Option.some Jvm.ClassFile.FieldType.int)) ∈ lw_all := lw_g (lw_at lw_m1 199 rfl) rfl
theorem q211 : (Jvm.Cond.methodLink "CausalStoreModel" (53 : Nat) ({ cls := "CausalStoreModel", name := "sweep", desc := "(I)I" } : Jvm.MethodName)) ∈ lw_all := lw_g (lw_at lw_m1 200 rfl) rfl
theorem q212 : (Jvm.Cond.privateMethod ({ cls := "CausalStoreModel", name := "sweep", desc := "(I)I" } : Jvm.MethodName)) ∈ lw_tbl := lw_at lw_m1 201 rfl
theorem q213 : (Jvm.Cond.instanceMethod ({ cls := "CausalStoreModel", name := "sweep", desc := "(I)I" } : Jvm.MethodName)) ∈ lw_all := lw_g (lw_at lw_m1 202 rfl) rfl
theorem q214 : (Jvm.Cond.code ({ cls := "CausalStoreModel", name := "sweep", desc := "(I)I" } : Jvm.MethodName) prog_3_method_6_code (6 : Nat) (Option.some Jvm.ClassFile.FieldType.int)) ∈ lw_all := lw_g (lw_at lw_m1 203 rfl) rfl
theorem q215 : (Jvm.Cond.methodLink "CausalStoreModel" (39 : Nat) ({ cls := "CausalStoreModel", name := "allNeeded", desc := "(I)Z" } : Jvm.MethodName)) ∈ lw_all := lw_g (lw_at lw_m1 204 rfl) rfl
theorem q216 : (Jvm.Cond.privateMethod ({ cls := "CausalStoreModel", name := "allNeeded", desc := "(I)Z" } : Jvm.MethodName)) ∈ lw_tbl := lw_at lw_m1 205 rfl
theorem q217 : (Jvm.Cond.instanceMethod ({ cls := "CausalStoreModel", name := "allNeeded", desc := "(I)Z" } : Jvm.MethodName)) ∈ lw_all := lw_g (lw_at lw_m1 206 rfl) rfl
theorem q218 : (Jvm.Cond.code ({ cls := "CausalStoreModel", name := "allNeeded", desc := "(I)Z" } : Jvm.MethodName) prog_3_method_5_code (3 : Nat) (Option.some Jvm.ClassFile.FieldType.boolean)) ∈ lw_all := lw_g (lw_at lw_m1 207 rfl) rfl
theorem q220 : (Jvm.Cond.instanceMethod ({ cls := "CausalStoreModel", name := "move", desc := "(II)I" } : Jvm.MethodName)) ∈ lw_all := lw_g (lw_at lw_m1 209 rfl) rfl
theorem q221 : (Jvm.Cond.selects "CausalStoreModel" ({ cls := "CausalStoreModel", name := "move", desc := "(II)I" } : Jvm.MethodName) ({ cls := "CausalStoreModel", name := "move", desc := "(II)I" } : Jvm.MethodName)) ∈ lw_all := lw_g (lw_at lw_m1 210 rfl) rfl
theorem q222 : (Jvm.Cond.code ({ cls := "CausalStoreModel", name := "move", desc := "(II)I" } : Jvm.MethodName) prog_3_method_9_code (4 : Nat) (Option.some Jvm.ClassFile.FieldType.int)) ∈ lw_all := lw_g (lw_at lw_m1 211 rfl) rfl
theorem q224 : (Jvm.Cond.instanceMethod ({ cls := "CausalStoreModel", name := "deliver", desc := "(II)I" } : Jvm.MethodName)) ∈ lw_all := lw_g (lw_at lw_m1 213 rfl) rfl
theorem q225 : (Jvm.Cond.selects "CausalStoreModel" ({ cls := "CausalStoreModel", name := "deliver", desc := "(II)I" } : Jvm.MethodName) ({ cls := "CausalStoreModel", name := "deliver", desc := "(II)I" } : Jvm.MethodName)) ∈ lw_all := lw_g (lw_at lw_m1 214 rfl) rfl
theorem q226 : (Jvm.Cond.code ({ cls := "CausalStoreModel", name := "deliver", desc := "(II)I" } : Jvm.MethodName) prog_3_method_10_code (4 : Nat) (Option.some Jvm.ClassFile.FieldType.int)) ∈ lw_all := lw_g (lw_at lw_m1 215 rfl) rfl
theorem q227 : (Jvm.Cond.methodLink "CausalStoreModel" (57 : Nat) ({ cls := "CausalStoreModel", name := "isVersion", desc := "(I)Z" } : Jvm.MethodName)) ∈ lw_all := lw_g (lw_at lw_m1 216 rfl) rfl
theorem q228 : (Jvm.Cond.privateMethod ({ cls := "CausalStoreModel", name := "isVersion", desc := "(I)Z" } : Jvm.MethodName)) ∈ lw_tbl := lw_at lw_m1 217 rfl
theorem q229 : (Jvm.Cond.instanceMethod ({ cls := "CausalStoreModel", name := "isVersion", desc := "(I)Z" } : Jvm.MethodName)) ∈ lw_all := lw_g (lw_at lw_m1 218 rfl) rfl
theorem q230 : (Jvm.Cond.code ({ cls := "CausalStoreModel", name := "isVersion", desc := "(I)Z" } : Jvm.MethodName) prog_3_method_4_code (2 : Nat) (Option.some Jvm.ClassFile.FieldType.boolean)) ∈ lw_all := lw_g (lw_at lw_m1 219 rfl) rfl
theorem q232 : (Jvm.Cond.instanceMethod ({ cls := "CausalStoreModel", name := "deliverAll", desc := "(I)I" } : Jvm.MethodName)) ∈ lw_all := lw_g (lw_at lw_m1 221 rfl) rfl
theorem q233 : (Jvm.Cond.selects "CausalStoreModel" ({ cls := "CausalStoreModel", name := "deliverAll", desc := "(I)I" } : Jvm.MethodName) ({ cls := "CausalStoreModel", name := "deliverAll", desc := "(I)I" } : Jvm.MethodName)) ∈ lw_all := lw_g (lw_at lw_m1 222 rfl) rfl
theorem q234 : (Jvm.Cond.code ({ cls := "CausalStoreModel", name := "deliverAll", desc := "(I)I" } : Jvm.MethodName) prog_3_method_11_code (4 : Nat) (Option.some Jvm.ClassFile.FieldType.int)) ∈ lw_all := lw_g (lw_at lw_m1 223 rfl) rfl
theorem q236 : (Jvm.Cond.instanceMethod ({ cls := "CausalStoreModel", name := "visible", desc := "(II)Z" } : Jvm.MethodName)) ∈ lw_all := lw_g (lw_at lw_m1 225 rfl) rfl
theorem q237 : (Jvm.Cond.selects "CausalStoreModel" ({ cls := "CausalStoreModel", name := "visible", desc := "(II)Z" } : Jvm.MethodName) ({ cls := "CausalStoreModel", name := "visible", desc := "(II)Z" } : Jvm.MethodName)) ∈ lw_all := lw_g (lw_at lw_m1 226 rfl) rfl
theorem q238 : (Jvm.Cond.code ({ cls := "CausalStoreModel", name := "visible", desc := "(II)Z" } : Jvm.MethodName) prog_3_method_12_code (3 : Nat) (Option.some Jvm.ClassFile.FieldType.boolean)) ∈ lw_all := lw_g (lw_at lw_m1 227 rfl) rfl
theorem q241 : (Jvm.Cond.instanceMethod ({ cls := "CausalStoreModel", name := "value", desc := "(I)I" } : Jvm.MethodName)) ∈ lw_all := lw_g (lw_at lw_m1 230 rfl) rfl
theorem q242 : (Jvm.Cond.selects "CausalStoreModel" ({ cls := "CausalStoreModel", name := "value", desc := "(I)I" } : Jvm.MethodName) ({ cls := "CausalStoreModel", name := "value", desc := "(I)I" } : Jvm.MethodName)) ∈ lw_all := lw_g (lw_at lw_m1 231 rfl) rfl
theorem q243 : (Jvm.Cond.code ({ cls := "CausalStoreModel", name := "value", desc := "(I)I" } : Jvm.MethodName) prog_3_method_14_code (2 : Nat) (Option.some Jvm.ClassFile.FieldType.int)) ∈ lw_all := lw_g (lw_at lw_m1 232 rfl) rfl
theorem q245 : (Jvm.Cond.instanceMethod ({ cls := "CausalStoreModel", name := "stamp", desc := "(I)I" } : Jvm.MethodName)) ∈ lw_all := lw_g (lw_at lw_m1 234 rfl) rfl
theorem q246 : (Jvm.Cond.selects "CausalStoreModel" ({ cls := "CausalStoreModel", name := "stamp", desc := "(I)I" } : Jvm.MethodName) ({ cls := "CausalStoreModel", name := "stamp", desc := "(I)I" } : Jvm.MethodName)) ∈ lw_all := lw_g (lw_at lw_m1 235 rfl) rfl
theorem q247 : (Jvm.Cond.code ({ cls := "CausalStoreModel", name := "stamp", desc := "(I)I" } : Jvm.MethodName) prog_3_method_15_code (2 : Nat) (Option.some Jvm.ClassFile.FieldType.int)) ∈ lw_all := lw_g (lw_at lw_m1 236 rfl) rfl
theorem q249 : (Jvm.Cond.instanceMethod ({ cls := "CausalStoreModel", name := "depends", desc := "(II)Z" } : Jvm.MethodName)) ∈ lw_all := lw_g (lw_at lw_m1 238 rfl) rfl
theorem q250 : (Jvm.Cond.selects "CausalStoreModel" ({ cls := "CausalStoreModel", name := "depends", desc := "(II)Z" } : Jvm.MethodName) ({ cls := "CausalStoreModel", name := "depends", desc := "(II)Z" } : Jvm.MethodName)) ∈ lw_all := lw_g (lw_at lw_m1 239 rfl) rfl
theorem q251 : (Jvm.Cond.code ({ cls := "CausalStoreModel", name := "depends", desc := "(II)Z" } : Jvm.MethodName) prog_3_method_16_code (3 : Nat) (Option.some Jvm.ClassFile.FieldType.boolean)) ∈ lw_all := lw_g (lw_at lw_m2 0 rfl) rfl
theorem q253 : (Jvm.Cond.instanceMethod ({ cls := "CausalStoreModel", name := "held", desc := "(I)I" } : Jvm.MethodName)) ∈ lw_all := lw_g (lw_at lw_m2 2 rfl) rfl
theorem q254 : (Jvm.Cond.selects "CausalStoreModel" ({ cls := "CausalStoreModel", name := "held", desc := "(I)I" } : Jvm.MethodName) ({ cls := "CausalStoreModel", name := "held", desc := "(I)I" } : Jvm.MethodName)) ∈ lw_all := lw_g (lw_at lw_m2 3 rfl) rfl
theorem q255 : (Jvm.Cond.code ({ cls := "CausalStoreModel", name := "held", desc := "(I)I" } : Jvm.MethodName) prog_3_method_17_code (4 : Nat) (Option.some Jvm.ClassFile.FieldType.int)) ∈ lw_all := lw_g (lw_at lw_m2 4 rfl) rfl
theorem q257 : (Jvm.Cond.instanceMethod ({ cls := "CausalStoreModel", name := "seen", desc := "(I)I" } : Jvm.MethodName)) ∈ lw_all := lw_g (lw_at lw_m2 6 rfl) rfl
theorem q258 : (Jvm.Cond.selects "CausalStoreModel" ({ cls := "CausalStoreModel", name := "seen", desc := "(I)I" } : Jvm.MethodName) ({ cls := "CausalStoreModel", name := "seen", desc := "(I)I" } : Jvm.MethodName)) ∈ lw_all := lw_g (lw_at lw_m2 7 rfl) rfl
theorem q259 : (Jvm.Cond.code ({ cls := "CausalStoreModel", name := "seen", desc := "(I)I" } : Jvm.MethodName) prog_3_method_18_code (4 : Nat) (Option.some Jvm.ClassFile.FieldType.int)) ∈ lw_all := lw_g (lw_at lw_m2 8 rfl) rfl
theorem q261 : (Jvm.Cond.instanceMethod ({ cls := "CausalStoreModel", name := "agree", desc := "(II)I" } : Jvm.MethodName)) ∈ lw_all := lw_g (lw_at lw_m2 10 rfl) rfl
theorem q262 : (Jvm.Cond.selects "CausalStoreModel" ({ cls := "CausalStoreModel", name := "agree", desc := "(II)I" } : Jvm.MethodName) ({ cls := "CausalStoreModel", name := "agree", desc := "(II)I" } : Jvm.MethodName)) ∈ lw_all := lw_g (lw_at lw_m2 11 rfl) rfl
theorem q263 : (Jvm.Cond.code ({ cls := "CausalStoreModel", name := "agree", desc := "(II)I" } : Jvm.MethodName) prog_3_method_19_code (5 : Nat) (Option.some Jvm.ClassFile.FieldType.int)) ∈ lw_all := lw_g (lw_at lw_m2 12 rfl) rfl
theorem in_X1 : ∀ w ∈ wsX10, w ∈ lw_all := lw_in wsX10 [171, 173, 175, 177, 179, 181, 183, 185, 187] (by decide +kernel) (by decide +kernel)

theorem q11 : (Jvm.Cond.initialized "CausalStoreLaw") ∈ lw_all := lw_g (lw_at lw_m1 0 rfl) rfl
set_option maxRecDepth 100000
theorem q14 : (Jvm.Cond.classLink "CausalStoreLaw" (7 : Nat) "CausalStore") ∈ lw_all := lw_g (lw_at lw_m1 3 rfl) rfl
theorem q16 : (Jvm.Cond.methodLink "CausalStoreLaw" (9 : Nat) ({ cls := "CausalStore", name := "<init>", desc := "()V" } : Jvm.MethodName)) ∈ lw_all := lw_g (lw_at lw_m1 5 rfl) rfl
theorem q67 : (Jvm.Cond.methodLink "CausalStoreLaw" (13 : Nat) ({ cls := "CausalStore", name := "write", desc := "(III)I" } : Jvm.MethodName)) ∈ lw_all := lw_g (lw_at lw_m1 56 rfl) rfl
theorem q101 : (Jvm.Cond.methodLink "CausalStoreLaw" (18 : Nat) ({ cls := "CausalStore", name := "read", desc := "(II)I" } : Jvm.MethodName)) ∈ lw_all := lw_g (lw_at lw_m1 90 rfl) rfl
theorem q105 : (Jvm.Cond.methodLink "CausalStoreLaw" (23 : Nat) ({ cls := "CausalStore", name := "move", desc := "(II)I" } : Jvm.MethodName)) ∈ lw_all := lw_g (lw_at lw_m1 94 rfl) rfl
theorem q112 : (Jvm.Cond.methodLink "CausalStoreLaw" (27 : Nat) ({ cls := "CausalStore", name := "deliver", desc := "(II)I" } : Jvm.MethodName)) ∈ lw_all := lw_g (lw_at lw_m1 101 rfl) rfl
theorem q120 : (Jvm.Cond.methodLink "CausalStoreLaw" (31 : Nat) ({ cls := "CausalStore", name := "deliverAll", desc := "(I)I" } : Jvm.MethodName)) ∈ lw_all := lw_g (lw_at lw_m1 109 rfl) rfl
theorem q124 : (Jvm.Cond.methodLink "CausalStoreLaw" (36 : Nat) ({ cls := "CausalStore", name := "visible", desc := "(II)Z" } : Jvm.MethodName)) ∈ lw_all := lw_g (lw_at lw_m1 113 rfl) rfl
theorem q128 : (Jvm.Cond.methodLink "CausalStoreLaw" (41 : Nat) ({ cls := "CausalStore", name := "winner", desc := "(II)I" } : Jvm.MethodName)) ∈ lw_all := lw_g (lw_at lw_m1 117 rfl) rfl
theorem q132 : (Jvm.Cond.methodLink "CausalStoreLaw" (45 : Nat) ({ cls := "CausalStore", name := "value", desc := "(I)I" } : Jvm.MethodName)) ∈ lw_all := lw_g (lw_at lw_m1 121 rfl) rfl
theorem q136 : (Jvm.Cond.methodLink "CausalStoreLaw" (49 : Nat) ({ cls := "CausalStore", name := "stamp", desc := "(I)I" } : Jvm.MethodName)) ∈ lw_all := lw_g (lw_at lw_m1 125 rfl) rfl
theorem q140 : (Jvm.Cond.methodLink "CausalStoreLaw" (53 : Nat) ({ cls := "CausalStore", name := "depends", desc := "(II)Z" } : Jvm.MethodName)) ∈ lw_all := lw_g (lw_at lw_m1 129 rfl) rfl
theorem q144 : (Jvm.Cond.methodLink "CausalStoreLaw" (57 : Nat) ({ cls := "CausalStore", name := "held", desc := "(I)I" } : Jvm.MethodName)) ∈ lw_all := lw_g (lw_at lw_m1 133 rfl) rfl
theorem q148 : (Jvm.Cond.methodLink "CausalStoreLaw" (61 : Nat) ({ cls := "CausalStore", name := "seen", desc := "(I)I" } : Jvm.MethodName)) ∈ lw_all := lw_g (lw_at lw_m1 137 rfl) rfl
theorem q152 : (Jvm.Cond.methodLink "CausalStoreLaw" (65 : Nat) ({ cls := "CausalStore", name := "agree", desc := "(II)I" } : Jvm.MethodName)) ∈ lw_all := lw_g (lw_at lw_m1 141 rfl) rfl
theorem q156 : (Jvm.Cond.classLink "CausalStoreLaw" (10 : Nat) "CausalStoreModel") ∈ lw_all := lw_g (lw_at lw_m1 145 rfl) rfl
theorem q158 : (Jvm.Cond.methodLink "CausalStoreLaw" (12 : Nat) ({ cls := "CausalStoreModel", name := "<init>", desc := "()V" } : Jvm.MethodName)) ∈ lw_all := lw_g (lw_at lw_m1 147 rfl) rfl
theorem q191 : (Jvm.Cond.methodLink "CausalStoreLaw" (17 : Nat) ({ cls := "CausalStoreModel", name := "write", desc := "(III)I" } : Jvm.MethodName)) ∈ lw_all := lw_g (lw_at lw_m1 180 rfl) rfl
theorem q203 : (Jvm.Cond.methodLink "CausalStoreLaw" (22 : Nat) ({ cls := "CausalStoreModel", name := "read", desc := "(II)I" } : Jvm.MethodName)) ∈ lw_all := lw_g (lw_at lw_m1 192 rfl) rfl
theorem q219 : (Jvm.Cond.methodLink "CausalStoreLaw" (26 : Nat) ({ cls := "CausalStoreModel", name := "move", desc := "(II)I" } : Jvm.MethodName)) ∈ lw_all := lw_g (lw_at lw_m1 208 rfl) rfl
theorem q223 : (Jvm.Cond.methodLink "CausalStoreLaw" (30 : Nat) ({ cls := "CausalStoreModel", name := "deliver", desc := "(II)I" } : Jvm.MethodName)) ∈ lw_all := lw_g (lw_at lw_m1 212 rfl) rfl
theorem q231 : (Jvm.Cond.methodLink "CausalStoreLaw" (35 : Nat) ({ cls := "CausalStoreModel", name := "deliverAll", desc := "(I)I" } : Jvm.MethodName)) ∈ lw_all := lw_g (lw_at lw_m1 220 rfl) rfl
theorem q235 : (Jvm.Cond.methodLink "CausalStoreLaw" (40 : Nat) ({ cls := "CausalStoreModel", name := "visible", desc := "(II)Z" } : Jvm.MethodName)) ∈ lw_all := lw_g (lw_at lw_m1 224 rfl) rfl
theorem q239 : (Jvm.Cond.methodLink "CausalStoreLaw" (44 : Nat) ({ cls := "CausalStoreModel", name := "winner", desc := "(II)I" } : Jvm.MethodName)) ∈ lw_all := lw_g (lw_at lw_m1 228 rfl) rfl
theorem q240 : (Jvm.Cond.methodLink "CausalStoreLaw" (48 : Nat) ({ cls := "CausalStoreModel", name := "value", desc := "(I)I" } : Jvm.MethodName)) ∈ lw_all := lw_g (lw_at lw_m1 229 rfl) rfl
theorem q244 : (Jvm.Cond.methodLink "CausalStoreLaw" (52 : Nat) ({ cls := "CausalStoreModel", name := "stamp", desc := "(I)I" } : Jvm.MethodName)) ∈ lw_all := lw_g (lw_at lw_m1 233 rfl) rfl
theorem q248 : (Jvm.Cond.methodLink "CausalStoreLaw" (56 : Nat) ({ cls := "CausalStoreModel", name := "depends", desc := "(II)Z" } : Jvm.MethodName)) ∈ lw_all := lw_g (lw_at lw_m1 237 rfl) rfl
theorem q252 : (Jvm.Cond.methodLink "CausalStoreLaw" (60 : Nat) ({ cls := "CausalStoreModel", name := "held", desc := "(I)I" } : Jvm.MethodName)) ∈ lw_all := lw_g (lw_at lw_m2 1 rfl) rfl
theorem q256 : (Jvm.Cond.methodLink "CausalStoreLaw" (64 : Nat) ({ cls := "CausalStoreModel", name := "seen", desc := "(I)I" } : Jvm.MethodName)) ∈ lw_all := lw_g (lw_at lw_m2 5 rfl) rfl
theorem q260 : (Jvm.Cond.methodLink "CausalStoreLaw" (68 : Nat) ({ cls := "CausalStoreModel", name := "agree", desc := "(II)I" } : Jvm.MethodName)) ∈ lw_all := lw_g (lw_at lw_m2 9 rfl) rfl

/-! the law's own entry -/
set_option maxRecDepth 100000
abbrev cL_law : ByteArray := code

abbrev vwCl : List vw_C := [(RX0, TX0, 14), (RX1, TX1, 9)]
end
section
set_option maxRecDepth 100000
theorem dX0_init_0 : decode cX0_init 0 = .ok (.aload_n 0, 1) := by decide +kernel
theorem dX0_init_1 : decode cX0_init 1 = .ok (.invokespecial 1, 3) := by decide +kernel
theorem dX0_init_4 : decode cX0_init 4 = .ok (.aload_n 0, 1) := by decide +kernel
theorem dX0_init_5 : decode cX0_init 5 = .ok (.bipush 40, 2) := by decide +kernel
theorem dX0_init_7 : decode cX0_init 7 = .ok (.newarray .int, 2) := by decide +kernel
theorem dX0_init_9 : decode cX0_init 9 = .ok (.putfield 7, 3) := by decide +kernel
theorem dX0_init_12 : decode cX0_init 12 = .ok (.aload_n 0, 1) := by decide +kernel
theorem dX0_init_13 : decode cX0_init 13 = .ok (.bipush 40, 2) := by decide +kernel
theorem dX0_init_15 : decode cX0_init 15 = .ok (.newarray .int, 2) := by decide +kernel
theorem dX0_init_17 : decode cX0_init 17 = .ok (.putfield 13, 3) := by decide +kernel
theorem dX0_init_20 : decode cX0_init 20 = .ok (.aload_n 0, 1) := by decide +kernel
theorem dX0_init_21 : decode cX0_init 21 = .ok (.bipush 40, 2) := by decide +kernel
theorem dX0_init_23 : decode cX0_init 23 = .ok (.newarray .int, 2) := by decide +kernel
theorem dX0_init_25 : decode cX0_init 25 = .ok (.putfield 16, 3) := by decide +kernel
theorem dX0_init_28 : decode cX0_init 28 = .ok (.aload_n 0, 1) := by decide +kernel
theorem dX0_init_29 : decode cX0_init 29 = .ok (.bipush 40, 2) := by decide +kernel
theorem dX0_init_31 : decode cX0_init 31 = .ok (.newarray .long, 2) := by decide +kernel
theorem dX0_init_33 : decode cX0_init 33 = .ok (.putfield 19, 3) := by decide +kernel
theorem dX0_init_36 : decode cX0_init 36 = .ok (.aload_n 0, 1) := by decide +kernel
theorem dX0_init_37 : decode cX0_init 37 = .ok (.iconst 3, 1) := by decide +kernel
theorem dX0_init_38 : decode cX0_init 38 = .ok (.newarray .long, 2) := by decide +kernel
theorem dX0_init_40 : decode cX0_init 40 = .ok (.putfield 23, 3) := by decide +kernel
theorem dX0_init_43 : decode cX0_init 43 = .ok (.aload_n 0, 1) := by decide +kernel
theorem dX0_init_44 : decode cX0_init 44 = .ok (.iconst 3, 1) := by decide +kernel
theorem dX0_init_45 : decode cX0_init 45 = .ok (.newarray .long, 2) := by decide +kernel
theorem dX0_init_47 : decode cX0_init 47 = .ok (.putfield 26, 3) := by decide +kernel
theorem dX0_init_50 : decode cX0_init 50 = .ok (.aload_n 0, 1) := by decide +kernel
theorem dX0_init_51 : decode cX0_init 51 = .ok (.bipush 120, 2) := by decide +kernel
theorem dX0_init_53 : decode cX0_init 53 = .ok (.newarray .int, 2) := by decide +kernel
theorem dX0_init_55 : decode cX0_init 55 = .ok (.putfield 29, 3) := by decide +kernel
theorem dX0_init_58 : decode cX0_init 58 = .ok (.aload_n 0, 1) := by decide +kernel
theorem dX0_init_59 : decode cX0_init 59 = .ok (.bipush 18, 2) := by decide +kernel
theorem dX0_init_61 : decode cX0_init 61 = .ok (.newarray .int, 2) := by decide +kernel
theorem dX0_init_63 : decode cX0_init 63 = .ok (.putfield 32, 3) := by decide +kernel
theorem dX0_init_66 : decode cX0_init 66 = .ok (.aload_n 0, 1) := by decide +kernel
theorem dX0_init_67 : decode cX0_init 67 = .ok (.iconst 3, 1) := by decide +kernel
theorem dX0_init_68 : decode cX0_init 68 = .ok (.newarray .int, 2) := by decide +kernel
theorem dX0_init_70 : decode cX0_init 70 = .ok (.putfield 35, 3) := by decide +kernel
theorem dX0_init_73 : decode cX0_init 73 = .ok (.aload_n 0, 1) := by decide +kernel
theorem dX0_init_74 : decode cX0_init 74 = .ok (.iconst 3, 1) := by decide +kernel
theorem dX0_init_75 : decode cX0_init 75 = .ok (.newarray .long, 2) := by decide +kernel
theorem dX0_init_77 : decode cX0_init 77 = .ok (.putfield 38, 3) := by decide +kernel
theorem dX0_init_80 : decode cX0_init 80 = .ok (.aload_n 0, 1) := by decide +kernel
theorem dX0_init_81 : decode cX0_init 81 = .ok (.iconst 3, 1) := by decide +kernel
theorem dX0_init_82 : decode cX0_init 82 = .ok (.newarray .int, 2) := by decide +kernel
theorem dX0_init_84 : decode cX0_init 84 = .ok (.putfield 41, 3) := by decide +kernel
theorem dX0_init_87 : decode cX0_init 87 = .ok (.aload_n 0, 1) := by decide +kernel
theorem dX0_init_88 : decode cX0_init 88 = .ok (.bipush 40, 2) := by decide +kernel
theorem dX0_init_90 : decode cX0_init 90 = .ok (.newarray .int, 2) := by decide +kernel
theorem dX0_init_92 : decode cX0_init 92 = .ok (.putfield 44, 3) := by decide +kernel
theorem dX0_init_95 : decode cX0_init 95 = .ok (.iconst 0, 1) := by decide +kernel
theorem dX0_init_96 : decode cX0_init 96 = .ok (.istore_n 1, 1) := by decide +kernel
theorem dX0_init_97 : decode cX0_init 97 = .ok (.iload_n 1, 1) := by decide +kernel
theorem dX0_init_98 : decode cX0_init 98 = .ok (.bipush 18, 2) := by decide +kernel
theorem dX0_init_100 : decode cX0_init 100 = .ok (.if_icmp .ge 17, 3) := by decide +kernel
theorem dX0_init_103 : decode cX0_init 103 = .ok (.aload_n 0, 1) := by decide +kernel
theorem dX0_init_104 : decode cX0_init 104 = .ok (.getfield 32, 3) := by decide +kernel
theorem dX0_init_107 : decode cX0_init 107 = .ok (.iload_n 1, 1) := by decide +kernel
theorem dX0_init_108 : decode cX0_init 108 = .ok (.bipush (-5), 2) := by decide +kernel
theorem dX0_init_110 : decode cX0_init 110 = .ok (.iastore, 1) := by decide +kernel
theorem dX0_init_111 : decode cX0_init 111 = .ok (.iinc 1 1, 3) := by decide +kernel
theorem dX0_init_114 : decode cX0_init 114 = .ok (.goto (-17), 3) := by decide +kernel
theorem dX0_init_117 : decode cX0_init 117 = .ok (.iconst 0, 1) := by decide +kernel
theorem dX0_init_118 : decode cX0_init 118 = .ok (.istore_n 1, 1) := by decide +kernel
theorem dX0_init_119 : decode cX0_init 119 = .ok (.iload_n 1, 1) := by decide +kernel
theorem dX0_init_120 : decode cX0_init 120 = .ok (.iconst 3, 1) := by decide +kernel
theorem dX0_init_121 : decode cX0_init 121 = .ok (.if_icmp .ge 16, 3) := by decide +kernel
theorem dX0_init_124 : decode cX0_init 124 = .ok (.aload_n 0, 1) := by decide +kernel
theorem dX0_init_125 : decode cX0_init 125 = .ok (.getfield 35, 3) := by decide +kernel
theorem dX0_init_128 : decode cX0_init 128 = .ok (.iload_n 1, 1) := by decide +kernel
theorem dX0_init_129 : decode cX0_init 129 = .ok (.iload_n 1, 1) := by decide +kernel
theorem dX0_init_130 : decode cX0_init 130 = .ok (.iastore, 1) := by decide +kernel
theorem dX0_init_131 : decode cX0_init 131 = .ok (.iinc 1 1, 3) := by decide +kernel
theorem dX0_init_134 : decode cX0_init 134 = .ok (.goto (-15), 3) := by decide +kernel
theorem dX0_init_137 : decode cX0_init 137 = .ok (.return_, 1) := by decide +kernel
theorem dX0_write_0 : decode cX0_write 0 = .ok (.iload_n 1, 1) := by decide +kernel
theorem dX0_write_1 : decode cX0_write 1 = .ok (.invokestatic 75, 3) := by decide +kernel
theorem dX0_write_4 : decode cX0_write 4 = .ok (.ifCond .eq 5, 3) := by decide +kernel
theorem dX0_write_7 : decode cX0_write 7 = .ok (.iconst (-1), 1) := by decide +kernel
theorem dX0_write_8 : decode cX0_write 8 = .ok (.ireturn, 1) := by decide +kernel
theorem dX0_write_9 : decode cX0_write 9 = .ok (.iload_n 2, 1) := by decide +kernel
theorem dX0_write_10 : decode cX0_write 10 = .ok (.ifCond .lt 9, 3) := by decide +kernel
theorem dX0_write_13 : decode cX0_write 13 = .ok (.iload_n 2, 1) := by decide +kernel
theorem dX0_write_14 : decode cX0_write 14 = .ok (.bipush 6, 2) := by decide +kernel
theorem dX0_write_16 : decode cX0_write 16 = .ok (.if_icmp .lt 6, 3) := by decide +kernel
theorem dX0_write_19 : decode cX0_write 19 = .ok (.bipush (-2), 2) := by decide +kernel
theorem dX0_write_21 : decode cX0_write 21 = .ok (.ireturn, 1) := by decide +kernel
theorem dX0_write_22 : decode cX0_write 22 = .ok (.aload_n 0, 1) := by decide +kernel
theorem dX0_write_23 : decode cX0_write 23 = .ok (.getfield 47, 3) := by decide +kernel
theorem dX0_write_26 : decode cX0_write 26 = .ok (.bipush 40, 2) := by decide +kernel
theorem dX0_write_28 : decode cX0_write 28 = .ok (.if_icmp .lt 6, 3) := by decide +kernel
theorem dX0_write_31 : decode cX0_write 31 = .ok (.bipush (-3), 2) := by decide +kernel
theorem dX0_write_33 : decode cX0_write 33 = .ok (.ireturn, 1) := by decide +kernel
theorem dX0_write_34 : decode cX0_write 34 = .ok (.aload_n 0, 1) := by decide +kernel
theorem dX0_write_35 : decode cX0_write 35 = .ok (.getfield 47, 3) := by decide +kernel
theorem dX0_write_38 : decode cX0_write 38 = .ok (.istore 4, 2) := by decide +kernel
theorem dX0_write_40 : decode cX0_write 40 = .ok (.aload_n 0, 1) := by decide +kernel
theorem dX0_write_41 : decode cX0_write 41 = .ok (.getfield 7, 3) := by decide +kernel
theorem dX0_write_44 : decode cX0_write 44 = .ok (.iload 4, 2) := by decide +kernel
theorem dX0_write_46 : decode cX0_write 46 = .ok (.iload_n 2, 1) := by decide +kernel
theorem dX0_write_47 : decode cX0_write 47 = .ok (.iastore, 1) := by decide +kernel
theorem dX0_write_48 : decode cX0_write 48 = .ok (.aload_n 0, 1) := by decide +kernel
theorem dX0_write_49 : decode cX0_write 49 = .ok (.getfield 13, 3) := by decide +kernel
theorem dX0_write_52 : decode cX0_write 52 = .ok (.iload 4, 2) := by decide +kernel
theorem dX0_write_54 : decode cX0_write 54 = .ok (.iload_n 3, 1) := by decide +kernel
theorem dX0_write_55 : decode cX0_write 55 = .ok (.iastore, 1) := by decide +kernel
theorem dX0_write_56 : decode cX0_write 56 = .ok (.aload_n 0, 1) := by decide +kernel
theorem dX0_write_57 : decode cX0_write 57 = .ok (.getfield 16, 3) := by decide +kernel
theorem dX0_write_60 : decode cX0_write 60 = .ok (.iload 4, 2) := by decide +kernel
theorem dX0_write_62 : decode cX0_write 62 = .ok (.aload_n 0, 1) := by decide +kernel
theorem dX0_write_63 : decode cX0_write 63 = .ok (.getfield 41, 3) := by decide +kernel
theorem dX0_write_66 : decode cX0_write 66 = .ok (.iload_n 1, 1) := by decide +kernel
theorem dX0_write_67 : decode cX0_write 67 = .ok (.iaload, 1) := by decide +kernel
theorem dX0_write_68 : decode cX0_write 68 = .ok (.iconst 1, 1) := by decide +kernel
theorem dX0_write_69 : decode cX0_write 69 = .ok (.iadd, 1) := by decide +kernel
theorem dX0_write_70 : decode cX0_write 70 = .ok (.iastore, 1) := by decide +kernel
theorem dX0_write_71 : decode cX0_write 71 = .ok (.aload_n 0, 1) := by decide +kernel
theorem dX0_write_72 : decode cX0_write 72 = .ok (.getfield 19, 3) := by decide +kernel
theorem dX0_write_75 : decode cX0_write 75 = .ok (.iload 4, 2) := by decide +kernel
theorem dX0_write_77 : decode cX0_write 77 = .ok (.aload_n 0, 1) := by decide +kernel
theorem dX0_write_78 : decode cX0_write 78 = .ok (.getfield 38, 3) := by decide +kernel
theorem dX0_write_81 : decode cX0_write 81 = .ok (.iload_n 1, 1) := by decide +kernel
theorem dX0_write_82 : decode cX0_write 82 = .ok (.laload, 1) := by decide +kernel
theorem dX0_write_83 : decode cX0_write 83 = .ok (.lastore, 1) := by decide +kernel
theorem dX0_write_84 : decode cX0_write 84 = .ok (.aload_n 0, 1) := by decide +kernel
theorem dX0_write_85 : decode cX0_write 85 = .ok (.dup, 1) := by decide +kernel
theorem dX0_write_86 : decode cX0_write 86 = .ok (.getfield 47, 3) := by decide +kernel
theorem dX0_write_89 : decode cX0_write 89 = .ok (.iconst 1, 1) := by decide +kernel
theorem dX0_write_90 : decode cX0_write 90 = .ok (.iadd, 1) := by decide +kernel
theorem dX0_write_91 : decode cX0_write 91 = .ok (.putfield 47, 3) := by decide +kernel
theorem dX0_write_94 : decode cX0_write 94 = .ok (.aload_n 0, 1) := by decide +kernel
theorem dX0_write_95 : decode cX0_write 95 = .ok (.aload_n 0, 1) := by decide +kernel
theorem dX0_write_96 : decode cX0_write 96 = .ok (.getfield 35, 3) := by decide +kernel
theorem dX0_write_99 : decode cX0_write 99 = .ok (.iload_n 1, 1) := by decide +kernel
theorem dX0_write_100 : decode cX0_write 100 = .ok (.iaload, 1) := by decide +kernel
theorem dX0_write_101 : decode cX0_write 101 = .ok (.iload 4, 2) := by decide +kernel
theorem dX0_write_103 : decode cX0_write 103 = .ok (.invokevirtual 79, 3) := by decide +kernel
theorem dX0_write_106 : decode cX0_write 106 = .ok (.pop, 1) := by decide +kernel
theorem dX0_write_107 : decode cX0_write 107 = .ok (.aload_n 0, 1) := by decide +kernel
theorem dX0_write_108 : decode cX0_write 108 = .ok (.iload_n 1, 1) := by decide +kernel
theorem dX0_write_109 : decode cX0_write 109 = .ok (.iload 4, 2) := by decide +kernel
theorem dX0_write_111 : decode cX0_write 111 = .ok (.invokevirtual 83, 3) := by decide +kernel
theorem dX0_write_114 : decode cX0_write 114 = .ok (.iload 4, 2) := by decide +kernel
theorem dX0_write_116 : decode cX0_write 116 = .ok (.ireturn, 1) := by decide +kernel
theorem dX0_badClient_0 : decode cX0_badClient 0 = .ok (.iload_n 0, 1) := by decide +kernel
theorem dX0_badClient_1 : decode cX0_badClient 1 = .ok (.ifCond .lt 8, 3) := by decide +kernel
theorem dX0_badClient_4 : decode cX0_badClient 4 = .ok (.iload_n 0, 1) := by decide +kernel
theorem dX0_badClient_5 : decode cX0_badClient 5 = .ok (.iconst 2, 1) := by decide +kernel
theorem dX0_badClient_6 : decode cX0_badClient 6 = .ok (.if_icmp .le 7, 3) := by decide +kernel
theorem dX0_badClient_9 : decode cX0_badClient 9 = .ok (.iconst 1, 1) := by decide +kernel
theorem dX0_badClient_10 : decode cX0_badClient 10 = .ok (.goto 4, 3) := by decide +kernel
theorem dX0_badClient_13 : decode cX0_badClient 13 = .ok (.iconst 0, 1) := by decide +kernel
theorem dX0_badClient_14 : decode cX0_badClient 14 = .ok (.ireturn, 1) := by decide +kernel
theorem dX0_arrive_0 : decode cX0_arrive 0 = .ok (.aload_n 0, 1) := by decide +kernel
theorem dX0_arrive_1 : decode cX0_arrive 1 = .ok (.getfield 23, 3) := by decide +kernel
theorem dX0_arrive_4 : decode cX0_arrive 4 = .ok (.iload_n 1, 1) := by decide +kernel
theorem dX0_arrive_5 : decode cX0_arrive 5 = .ok (.dup2, 1) := by decide +kernel
theorem dX0_arrive_6 : decode cX0_arrive 6 = .ok (.laload, 1) := by decide +kernel
theorem dX0_arrive_7 : decode cX0_arrive 7 = .ok (.lconst 1, 1) := by decide +kernel
theorem dX0_arrive_8 : decode cX0_arrive 8 = .ok (.iload_n 2, 1) := by decide +kernel
theorem dX0_arrive_9 : decode cX0_arrive 9 = .ok (.lshl, 1) := by decide +kernel
theorem dX0_arrive_10 : decode cX0_arrive 10 = .ok (.lor, 1) := by decide +kernel
theorem dX0_arrive_11 : decode cX0_arrive 11 = .ok (.lastore, 1) := by decide +kernel
theorem dX0_arrive_12 : decode cX0_arrive 12 = .ok (.aload_n 0, 1) := by decide +kernel
theorem dX0_arrive_13 : decode cX0_arrive 13 = .ok (.getfield 29, 3) := by decide +kernel
theorem dX0_arrive_16 : decode cX0_arrive 16 = .ok (.iload_n 1, 1) := by decide +kernel
theorem dX0_arrive_17 : decode cX0_arrive 17 = .ok (.bipush 40, 2) := by decide +kernel
theorem dX0_arrive_19 : decode cX0_arrive 19 = .ok (.imul, 1) := by decide +kernel
theorem dX0_arrive_20 : decode cX0_arrive 20 = .ok (.iload_n 2, 1) := by decide +kernel
theorem dX0_arrive_21 : decode cX0_arrive 21 = .ok (.iadd, 1) := by decide +kernel
theorem dX0_arrive_22 : decode cX0_arrive 22 = .ok (.aload_n 0, 1) := by decide +kernel
theorem dX0_arrive_23 : decode cX0_arrive 23 = .ok (.getfield 19, 3) := by decide +kernel
theorem dX0_arrive_26 : decode cX0_arrive 26 = .ok (.iload_n 2, 1) := by decide +kernel
theorem dX0_arrive_27 : decode cX0_arrive 27 = .ok (.laload, 1) := by decide +kernel
theorem dX0_arrive_28 : decode cX0_arrive 28 = .ok (.aload_n 0, 1) := by decide +kernel
theorem dX0_arrive_29 : decode cX0_arrive 29 = .ok (.getfield 26, 3) := by decide +kernel
theorem dX0_arrive_32 : decode cX0_arrive 32 = .ok (.iload_n 1, 1) := by decide +kernel
theorem dX0_arrive_33 : decode cX0_arrive 33 = .ok (.laload, 1) := by decide +kernel
theorem dX0_arrive_34 : decode cX0_arrive 34 = .ok (.ldc2_w 66, 3) := by decide +kernel
theorem dX0_arrive_37 : decode cX0_arrive 37 = .ok (.lxor, 1) := by decide +kernel
theorem dX0_arrive_38 : decode cX0_arrive 38 = .ok (.land, 1) := by decide +kernel
theorem dX0_arrive_39 : decode cX0_arrive 39 = .ok (.invokestatic 68, 3) := by decide +kernel
theorem dX0_arrive_42 : decode cX0_arrive 42 = .ok (.iastore, 1) := by decide +kernel
theorem dX0_arrive_43 : decode cX0_arrive 43 = .ok (.aload_n 0, 1) := by decide +kernel
theorem dX0_arrive_44 : decode cX0_arrive 44 = .ok (.getfield 29, 3) := by decide +kernel
theorem dX0_arrive_47 : decode cX0_arrive 47 = .ok (.iload_n 1, 1) := by decide +kernel
theorem dX0_arrive_48 : decode cX0_arrive 48 = .ok (.bipush 40, 2) := by decide +kernel
theorem dX0_arrive_50 : decode cX0_arrive 50 = .ok (.imul, 1) := by decide +kernel
theorem dX0_arrive_51 : decode cX0_arrive 51 = .ok (.iload_n 2, 1) := by decide +kernel
theorem dX0_arrive_52 : decode cX0_arrive 52 = .ok (.iadd, 1) := by decide +kernel
theorem dX0_arrive_53 : decode cX0_arrive 53 = .ok (.iaload, 1) := by decide +kernel
theorem dX0_arrive_54 : decode cX0_arrive 54 = .ok (.ifCond .le 5, 3) := by decide +kernel
theorem dX0_arrive_57 : decode cX0_arrive 57 = .ok (.iconst 0, 1) := by decide +kernel
theorem dX0_arrive_58 : decode cX0_arrive 58 = .ok (.ireturn, 1) := by decide +kernel
theorem dX0_arrive_59 : decode cX0_arrive 59 = .ok (.aload_n 0, 1) := by decide +kernel
theorem dX0_arrive_60 : decode cX0_arrive 60 = .ok (.getfield 44, 3) := by decide +kernel
theorem dX0_arrive_63 : decode cX0_arrive 63 = .ok (.iconst 0, 1) := by decide +kernel
theorem dX0_arrive_64 : decode cX0_arrive 64 = .ok (.iload_n 2, 1) := by decide +kernel
theorem dX0_arrive_65 : decode cX0_arrive 65 = .ok (.iastore, 1) := by decide +kernel
theorem dX0_arrive_66 : decode cX0_arrive 66 = .ok (.aload_n 0, 1) := by decide +kernel
theorem dX0_arrive_67 : decode cX0_arrive 67 = .ok (.iconst 1, 1) := by decide +kernel
theorem dX0_arrive_68 : decode cX0_arrive 68 = .ok (.putfield 63, 3) := by decide +kernel
theorem dX0_arrive_71 : decode cX0_arrive 71 = .ok (.iconst 0, 1) := by decide +kernel
theorem dX0_arrive_72 : decode cX0_arrive 72 = .ok (.istore_n 3, 1) := by decide +kernel
theorem dX0_arrive_73 : decode cX0_arrive 73 = .ok (.iload_n 3, 1) := by decide +kernel
theorem dX0_arrive_74 : decode cX0_arrive 74 = .ok (.aload_n 0, 1) := by decide +kernel
theorem dX0_arrive_75 : decode cX0_arrive 75 = .ok (.getfield 63, 3) := by decide +kernel
theorem dX0_arrive_78 : decode cX0_arrive 78 = .ok (.if_icmp .ge 20, 3) := by decide +kernel
theorem dX0_arrive_81 : decode cX0_arrive 81 = .ok (.aload_n 0, 1) := by decide +kernel
theorem dX0_arrive_82 : decode cX0_arrive 82 = .ok (.iload_n 1, 1) := by decide +kernel
theorem dX0_arrive_83 : decode cX0_arrive 83 = .ok (.aload_n 0, 1) := by decide +kernel
theorem dX0_arrive_84 : decode cX0_arrive 84 = .ok (.getfield 44, 3) := by decide +kernel
theorem dX0_arrive_87 : decode cX0_arrive 87 = .ok (.iload_n 3, 1) := by decide +kernel
theorem dX0_arrive_88 : decode cX0_arrive 88 = .ok (.iaload, 1) := by decide +kernel
theorem dX0_arrive_89 : decode cX0_arrive 89 = .ok (.invokevirtual 72, 3) := by decide +kernel
theorem dX0_arrive_92 : decode cX0_arrive 92 = .ok (.iinc 3 1, 3) := by decide +kernel
theorem dX0_arrive_95 : decode cX0_arrive 95 = .ok (.goto (-22), 3) := by decide +kernel
theorem dX0_arrive_98 : decode cX0_arrive 98 = .ok (.iload_n 3, 1) := by decide +kernel
theorem dX0_arrive_99 : decode cX0_arrive 99 = .ok (.ireturn, 1) := by decide +kernel
theorem dX0_bits_0 : decode cX0_bits 0 = .ok (.iconst 0, 1) := by decide +kernel
theorem dX0_bits_1 : decode cX0_bits 1 = .ok (.istore_n 2, 1) := by decide +kernel
theorem dX0_bits_2 : decode cX0_bits 2 = .ok (.iconst 0, 1) := by decide +kernel
theorem dX0_bits_3 : decode cX0_bits 3 = .ok (.istore_n 3, 1) := by decide +kernel
theorem dX0_bits_4 : decode cX0_bits 4 = .ok (.iload_n 3, 1) := by decide +kernel
theorem dX0_bits_5 : decode cX0_bits 5 = .ok (.bipush 40, 2) := by decide +kernel
theorem dX0_bits_7 : decode cX0_bits 7 = .ok (.if_icmp .ge 22, 3) := by decide +kernel
theorem dX0_bits_10 : decode cX0_bits 10 = .ok (.lload_n 0, 1) := by decide +kernel
theorem dX0_bits_11 : decode cX0_bits 11 = .ok (.iload_n 3, 1) := by decide +kernel
theorem dX0_bits_12 : decode cX0_bits 12 = .ok (.lushr, 1) := by decide +kernel
theorem dX0_bits_13 : decode cX0_bits 13 = .ok (.lconst 1, 1) := by decide +kernel
theorem dX0_bits_14 : decode cX0_bits 14 = .ok (.land, 1) := by decide +kernel
theorem dX0_bits_15 : decode cX0_bits 15 = .ok (.lconst 1, 1) := by decide +kernel
theorem dX0_bits_16 : decode cX0_bits 16 = .ok (.lcmp, 1) := by decide +kernel
theorem dX0_bits_17 : decode cX0_bits 17 = .ok (.ifCond .ne 6, 3) := by decide +kernel
theorem dX0_bits_20 : decode cX0_bits 20 = .ok (.iinc 2 1, 3) := by decide +kernel
theorem dX0_bits_23 : decode cX0_bits 23 = .ok (.iinc 3 1, 3) := by decide +kernel
theorem dX0_bits_26 : decode cX0_bits 26 = .ok (.goto (-22), 3) := by decide +kernel
theorem dX0_bits_29 : decode cX0_bits 29 = .ok (.iload_n 2, 1) := by decide +kernel
theorem dX0_bits_30 : decode cX0_bits 30 = .ok (.ireturn, 1) := by decide +kernel
theorem dX0_show_0 : decode cX0_show 0 = .ok (.aload_n 0, 1) := by decide +kernel
theorem dX0_show_1 : decode cX0_show 1 = .ok (.getfield 26, 3) := by decide +kernel
theorem dX0_show_4 : decode cX0_show 4 = .ok (.iload_n 1, 1) := by decide +kernel
theorem dX0_show_5 : decode cX0_show 5 = .ok (.dup2, 1) := by decide +kernel
theorem dX0_show_6 : decode cX0_show 6 = .ok (.laload, 1) := by decide +kernel
theorem dX0_show_7 : decode cX0_show 7 = .ok (.lconst 1, 1) := by decide +kernel
theorem dX0_show_8 : decode cX0_show 8 = .ok (.iload_n 2, 1) := by decide +kernel
theorem dX0_show_9 : decode cX0_show 9 = .ok (.lshl, 1) := by decide +kernel
theorem dX0_show_10 : decode cX0_show 10 = .ok (.lor, 1) := by decide +kernel
theorem dX0_show_11 : decode cX0_show 11 = .ok (.lastore, 1) := by decide +kernel
theorem dX0_show_12 : decode cX0_show 12 = .ok (.iload_n 1, 1) := by decide +kernel
theorem dX0_show_13 : decode cX0_show 13 = .ok (.bipush 6, 2) := by decide +kernel
theorem dX0_show_15 : decode cX0_show 15 = .ok (.imul, 1) := by decide +kernel
theorem dX0_show_16 : decode cX0_show 16 = .ok (.aload_n 0, 1) := by decide +kernel
theorem dX0_show_17 : decode cX0_show 17 = .ok (.getfield 7, 3) := by decide +kernel
theorem dX0_show_20 : decode cX0_show 20 = .ok (.iload_n 2, 1) := by decide +kernel
theorem dX0_show_21 : decode cX0_show 21 = .ok (.iaload, 1) := by decide +kernel
theorem dX0_show_22 : decode cX0_show 22 = .ok (.iadd, 1) := by decide +kernel
theorem dX0_show_23 : decode cX0_show 23 = .ok (.istore_n 3, 1) := by decide +kernel
theorem dX0_show_24 : decode cX0_show 24 = .ok (.aload_n 0, 1) := by decide +kernel
theorem dX0_show_25 : decode cX0_show 25 = .ok (.iload_n 2, 1) := by decide +kernel
theorem dX0_show_26 : decode cX0_show 26 = .ok (.aload_n 0, 1) := by decide +kernel
theorem dX0_show_27 : decode cX0_show 27 = .ok (.getfield 32, 3) := by decide +kernel
theorem dX0_show_30 : decode cX0_show 30 = .ok (.iload_n 3, 1) := by decide +kernel
theorem dX0_show_31 : decode cX0_show 31 = .ok (.iaload, 1) := by decide +kernel
theorem dX0_show_32 : decode cX0_show 32 = .ok (.invokevirtual 51, 3) := by decide +kernel
theorem dX0_show_35 : decode cX0_show 35 = .ok (.istore 4, 2) := by decide +kernel
theorem dX0_show_37 : decode cX0_show 37 = .ok (.iload 4, 2) := by decide +kernel
theorem dX0_show_39 : decode cX0_show 39 = .ok (.ifCond .eq 10, 3) := by decide +kernel
theorem dX0_show_42 : decode cX0_show 42 = .ok (.aload_n 0, 1) := by decide +kernel
theorem dX0_show_43 : decode cX0_show 43 = .ok (.getfield 32, 3) := by decide +kernel
theorem dX0_show_46 : decode cX0_show 46 = .ok (.iload_n 3, 1) := by decide +kernel
theorem dX0_show_47 : decode cX0_show 47 = .ok (.iload_n 2, 1) := by decide +kernel
theorem dX0_show_48 : decode cX0_show 48 = .ok (.iastore, 1) := by decide +kernel
theorem dX0_show_49 : decode cX0_show 49 = .ok (.iconst 0, 1) := by decide +kernel
theorem dX0_show_50 : decode cX0_show 50 = .ok (.istore 5, 2) := by decide +kernel
theorem dX0_show_52 : decode cX0_show 52 = .ok (.iload 5, 2) := by decide +kernel
theorem dX0_show_54 : decode cX0_show 54 = .ok (.aload_n 0, 1) := by decide +kernel
theorem dX0_show_55 : decode cX0_show 55 = .ok (.getfield 47, 3) := by decide +kernel
theorem dX0_show_58 : decode cX0_show 58 = .ok (.if_icmp .ge 70, 3) := by decide +kernel
theorem dX0_show_61 : decode cX0_show 61 = .ok (.aload_n 0, 1) := by decide +kernel
theorem dX0_show_62 : decode cX0_show 62 = .ok (.getfield 23, 3) := by decide +kernel
theorem dX0_show_65 : decode cX0_show 65 = .ok (.iload_n 1, 1) := by decide +kernel
theorem dX0_show_66 : decode cX0_show 66 = .ok (.laload, 1) := by decide +kernel
theorem dX0_show_67 : decode cX0_show 67 = .ok (.iload 5, 2) := by decide +kernel
theorem dX0_show_69 : decode cX0_show 69 = .ok (.invokestatic 55, 3) := by decide +kernel
theorem dX0_show_72 : decode cX0_show 72 = .ok (.ifCond .eq 35, 3) := by decide +kernel
theorem dX0_show_75 : decode cX0_show 75 = .ok (.aload_n 0, 1) := by decide +kernel
theorem dX0_show_76 : decode cX0_show 76 = .ok (.getfield 26, 3) := by decide +kernel
theorem dX0_show_79 : decode cX0_show 79 = .ok (.iload_n 1, 1) := by decide +kernel
theorem dX0_show_80 : decode cX0_show 80 = .ok (.laload, 1) := by decide +kernel
theorem dX0_show_81 : decode cX0_show 81 = .ok (.iload 5, 2) := by decide +kernel
theorem dX0_show_83 : decode cX0_show 83 = .ok (.invokestatic 55, 3) := by decide +kernel
theorem dX0_show_86 : decode cX0_show 86 = .ok (.ifCond .ne 21, 3) := by decide +kernel
theorem dX0_show_89 : decode cX0_show 89 = .ok (.aload_n 0, 1) := by decide +kernel
theorem dX0_show_90 : decode cX0_show 90 = .ok (.getfield 19, 3) := by decide +kernel
theorem dX0_show_93 : decode cX0_show 93 = .ok (.iload 5, 2) := by decide +kernel
theorem dX0_show_95 : decode cX0_show 95 = .ok (.laload, 1) := by decide +kernel
theorem dX0_show_96 : decode cX0_show 96 = .ok (.iload_n 2, 1) := by decide +kernel
theorem dX0_show_97 : decode cX0_show 97 = .ok (.invokestatic 55, 3) := by decide +kernel
theorem dX0_show_100 : decode cX0_show 100 = .ok (.ifCond .eq 7, 3) := by decide +kernel
theorem dX0_show_103 : decode cX0_show 103 = .ok (.iconst 1, 1) := by decide +kernel
theorem dX0_show_104 : decode cX0_show 104 = .ok (.goto 4, 3) := by decide +kernel
theorem dX0_show_107 : decode cX0_show 107 = .ok (.iconst 0, 1) := by decide +kernel
theorem dX0_show_108 : decode cX0_show 108 = .ok (.istore 6, 2) := by decide +kernel
theorem dX0_show_110 : decode cX0_show 110 = .ok (.iload 6, 2) := by decide +kernel
theorem dX0_show_112 : decode cX0_show 112 = .ok (.ifCond .eq 10, 3) := by decide +kernel
theorem dX0_show_115 : decode cX0_show 115 = .ok (.aload_n 0, 1) := by decide +kernel
theorem dX0_show_116 : decode cX0_show 116 = .ok (.iload_n 1, 1) := by decide +kernel
theorem dX0_show_117 : decode cX0_show 117 = .ok (.iload 5, 2) := by decide +kernel
theorem dX0_show_119 : decode cX0_show 119 = .ok (.invokevirtual 59, 3) := by decide +kernel
theorem dX0_show_122 : decode cX0_show 122 = .ok (.iinc 5 1, 3) := by decide +kernel
theorem dX0_show_125 : decode cX0_show 125 = .ok (.goto (-73), 3) := by decide +kernel
theorem dX0_show_128 : decode cX0_show 128 = .ok (.return_, 1) := by decide +kernel
theorem dX0_beats_0 : decode cX0_beats 0 = .ok (.iload_n 2, 1) := by decide +kernel
theorem dX0_beats_1 : decode cX0_beats 1 = .ok (.ifCond .ge 5, 3) := by decide +kernel
theorem dX0_beats_4 : decode cX0_beats 4 = .ok (.iconst 1, 1) := by decide +kernel
theorem dX0_beats_5 : decode cX0_beats 5 = .ok (.ireturn, 1) := by decide +kernel
theorem dX0_beats_6 : decode cX0_beats 6 = .ok (.aload_n 0, 1) := by decide +kernel
theorem dX0_beats_7 : decode cX0_beats 7 = .ok (.getfield 16, 3) := by decide +kernel
theorem dX0_beats_10 : decode cX0_beats 10 = .ok (.iload_n 1, 1) := by decide +kernel
theorem dX0_beats_11 : decode cX0_beats 11 = .ok (.iaload, 1) := by decide +kernel
theorem dX0_beats_12 : decode cX0_beats 12 = .ok (.aload_n 0, 1) := by decide +kernel
theorem dX0_beats_13 : decode cX0_beats 13 = .ok (.getfield 16, 3) := by decide +kernel
theorem dX0_beats_16 : decode cX0_beats 16 = .ok (.iload_n 2, 1) := by decide +kernel
theorem dX0_beats_17 : decode cX0_beats 17 = .ok (.iaload, 1) := by decide +kernel
theorem dX0_beats_18 : decode cX0_beats 18 = .ok (.if_icmp .eq 26, 3) := by decide +kernel
theorem dX0_beats_21 : decode cX0_beats 21 = .ok (.aload_n 0, 1) := by decide +kernel
theorem dX0_beats_22 : decode cX0_beats 22 = .ok (.getfield 16, 3) := by decide +kernel
theorem dX0_beats_25 : decode cX0_beats 25 = .ok (.iload_n 1, 1) := by decide +kernel
theorem dX0_beats_26 : decode cX0_beats 26 = .ok (.iaload, 1) := by decide +kernel
theorem dX0_beats_27 : decode cX0_beats 27 = .ok (.aload_n 0, 1) := by decide +kernel
theorem dX0_beats_28 : decode cX0_beats 28 = .ok (.getfield 16, 3) := by decide +kernel
theorem dX0_beats_31 : decode cX0_beats 31 = .ok (.iload_n 2, 1) := by decide +kernel
theorem dX0_beats_32 : decode cX0_beats 32 = .ok (.iaload, 1) := by decide +kernel
theorem dX0_beats_33 : decode cX0_beats 33 = .ok (.if_icmp .le 7, 3) := by decide +kernel
theorem dX0_beats_36 : decode cX0_beats 36 = .ok (.iconst 1, 1) := by decide +kernel
theorem dX0_beats_37 : decode cX0_beats 37 = .ok (.goto 17, 3) := by decide +kernel
theorem dX0_beats_40 : decode cX0_beats 40 = .ok (.iconst 0, 1) := by decide +kernel
theorem dX0_beats_41 : decode cX0_beats 41 = .ok (.goto 13, 3) := by decide +kernel
theorem dX0_beats_44 : decode cX0_beats 44 = .ok (.iload_n 1, 1) := by decide +kernel
theorem dX0_beats_45 : decode cX0_beats 45 = .ok (.iload_n 2, 1) := by decide +kernel
theorem dX0_beats_46 : decode cX0_beats 46 = .ok (.if_icmp .le 7, 3) := by decide +kernel
theorem dX0_beats_49 : decode cX0_beats 49 = .ok (.iconst 1, 1) := by decide +kernel
theorem dX0_beats_50 : decode cX0_beats 50 = .ok (.goto 4, 3) := by decide +kernel
theorem dX0_beats_53 : decode cX0_beats 53 = .ok (.iconst 0, 1) := by decide +kernel
theorem dX0_beats_54 : decode cX0_beats 54 = .ok (.ireturn, 1) := by decide +kernel
theorem dX0_has_0 : decode cX0_has 0 = .ok (.lload_n 0, 1) := by decide +kernel
theorem dX0_has_1 : decode cX0_has 1 = .ok (.iload_n 2, 1) := by decide +kernel
theorem dX0_has_2 : decode cX0_has 2 = .ok (.lushr, 1) := by decide +kernel
theorem dX0_has_3 : decode cX0_has 3 = .ok (.lconst 1, 1) := by decide +kernel
theorem dX0_has_4 : decode cX0_has 4 = .ok (.land, 1) := by decide +kernel
theorem dX0_has_5 : decode cX0_has 5 = .ok (.lconst 1, 1) := by decide +kernel
end
section
set_option maxRecDepth 100000
theorem dX0_has_6 : decode cX0_has 6 = .ok (.lcmp, 1) := by decide +kernel
theorem dX0_has_7 : decode cX0_has 7 = .ok (.ifCond .ne 7, 3) := by decide +kernel
theorem dX0_has_10 : decode cX0_has 10 = .ok (.iconst 1, 1) := by decide +kernel
theorem dX0_has_11 : decode cX0_has 11 = .ok (.goto 4, 3) := by decide +kernel
theorem dX0_has_14 : decode cX0_has 14 = .ok (.iconst 0, 1) := by decide +kernel
theorem dX0_has_15 : decode cX0_has 15 = .ok (.ireturn, 1) := by decide +kernel
theorem dX0_lower_0 : decode cX0_lower 0 = .ok (.aload_n 0, 1) := by decide +kernel
theorem dX0_lower_1 : decode cX0_lower 1 = .ok (.getfield 29, 3) := by decide +kernel
theorem dX0_lower_4 : decode cX0_lower 4 = .ok (.iload_n 1, 1) := by decide +kernel
theorem dX0_lower_5 : decode cX0_lower 5 = .ok (.bipush 40, 2) := by decide +kernel
theorem dX0_lower_7 : decode cX0_lower 7 = .ok (.imul, 1) := by decide +kernel
theorem dX0_lower_8 : decode cX0_lower 8 = .ok (.iload_n 2, 1) := by decide +kernel
theorem dX0_lower_9 : decode cX0_lower 9 = .ok (.iadd, 1) := by decide +kernel
theorem dX0_lower_10 : decode cX0_lower 10 = .ok (.dup2, 1) := by decide +kernel
theorem dX0_lower_11 : decode cX0_lower 11 = .ok (.iaload, 1) := by decide +kernel
theorem dX0_lower_12 : decode cX0_lower 12 = .ok (.iconst 1, 1) := by decide +kernel
theorem dX0_lower_13 : decode cX0_lower 13 = .ok (.isub, 1) := by decide +kernel
theorem dX0_lower_14 : decode cX0_lower 14 = .ok (.iastore, 1) := by decide +kernel
theorem dX0_lower_15 : decode cX0_lower 15 = .ok (.aload_n 0, 1) := by decide +kernel
theorem dX0_lower_16 : decode cX0_lower 16 = .ok (.getfield 29, 3) := by decide +kernel
theorem dX0_lower_19 : decode cX0_lower 19 = .ok (.iload_n 1, 1) := by decide +kernel
theorem dX0_lower_20 : decode cX0_lower 20 = .ok (.bipush 40, 2) := by decide +kernel
theorem dX0_lower_22 : decode cX0_lower 22 = .ok (.imul, 1) := by decide +kernel
theorem dX0_lower_23 : decode cX0_lower 23 = .ok (.iload_n 2, 1) := by decide +kernel
theorem dX0_lower_24 : decode cX0_lower 24 = .ok (.iadd, 1) := by decide +kernel
theorem dX0_lower_25 : decode cX0_lower 25 = .ok (.iaload, 1) := by decide +kernel
theorem dX0_lower_26 : decode cX0_lower 26 = .ok (.ifCond .ne 23, 3) := by decide +kernel
theorem dX0_lower_29 : decode cX0_lower 29 = .ok (.aload_n 0, 1) := by decide +kernel
theorem dX0_lower_30 : decode cX0_lower 30 = .ok (.getfield 44, 3) := by decide +kernel
theorem dX0_lower_33 : decode cX0_lower 33 = .ok (.aload_n 0, 1) := by decide +kernel
theorem dX0_lower_34 : decode cX0_lower 34 = .ok (.getfield 63, 3) := by decide +kernel
theorem dX0_lower_37 : decode cX0_lower 37 = .ok (.iload_n 2, 1) := by decide +kernel
theorem dX0_lower_38 : decode cX0_lower 38 = .ok (.iastore, 1) := by decide +kernel
theorem dX0_lower_39 : decode cX0_lower 39 = .ok (.aload_n 0, 1) := by decide +kernel
theorem dX0_lower_40 : decode cX0_lower 40 = .ok (.dup, 1) := by decide +kernel
theorem dX0_lower_41 : decode cX0_lower 41 = .ok (.getfield 63, 3) := by decide +kernel
theorem dX0_lower_44 : decode cX0_lower 44 = .ok (.iconst 1, 1) := by decide +kernel
theorem dX0_lower_45 : decode cX0_lower 45 = .ok (.iadd, 1) := by decide +kernel
theorem dX0_lower_46 : decode cX0_lower 46 = .ok (.putfield 63, 3) := by decide +kernel
theorem dX0_lower_49 : decode cX0_lower 49 = .ok (.return_, 1) := by decide +kernel
theorem dX0_see_0 : decode cX0_see 0 = .ok (.aload_n 0, 1) := by decide +kernel
theorem dX0_see_1 : decode cX0_see 1 = .ok (.getfield 38, 3) := by decide +kernel
theorem dX0_see_4 : decode cX0_see 4 = .ok (.iload_n 1, 1) := by decide +kernel
theorem dX0_see_5 : decode cX0_see 5 = .ok (.dup2, 1) := by decide +kernel
theorem dX0_see_6 : decode cX0_see 6 = .ok (.laload, 1) := by decide +kernel
theorem dX0_see_7 : decode cX0_see 7 = .ok (.lconst 1, 1) := by decide +kernel
theorem dX0_see_8 : decode cX0_see 8 = .ok (.iload_n 2, 1) := by decide +kernel
theorem dX0_see_9 : decode cX0_see 9 = .ok (.lshl, 1) := by decide +kernel
theorem dX0_see_10 : decode cX0_see 10 = .ok (.lor, 1) := by decide +kernel
theorem dX0_see_11 : decode cX0_see 11 = .ok (.lastore, 1) := by decide +kernel
theorem dX0_see_12 : decode cX0_see 12 = .ok (.aload_n 0, 1) := by decide +kernel
theorem dX0_see_13 : decode cX0_see 13 = .ok (.getfield 16, 3) := by decide +kernel
theorem dX0_see_16 : decode cX0_see 16 = .ok (.iload_n 2, 1) := by decide +kernel
theorem dX0_see_17 : decode cX0_see 17 = .ok (.iaload, 1) := by decide +kernel
theorem dX0_see_18 : decode cX0_see 18 = .ok (.aload_n 0, 1) := by decide +kernel
theorem dX0_see_19 : decode cX0_see 19 = .ok (.getfield 41, 3) := by decide +kernel
theorem dX0_see_22 : decode cX0_see 22 = .ok (.iload_n 1, 1) := by decide +kernel
theorem dX0_see_23 : decode cX0_see 23 = .ok (.iaload, 1) := by decide +kernel
theorem dX0_see_24 : decode cX0_see 24 = .ok (.if_icmp .le 15, 3) := by decide +kernel
theorem dX0_see_27 : decode cX0_see 27 = .ok (.aload_n 0, 1) := by decide +kernel
theorem dX0_see_28 : decode cX0_see 28 = .ok (.getfield 41, 3) := by decide +kernel
theorem dX0_see_31 : decode cX0_see 31 = .ok (.iload_n 1, 1) := by decide +kernel
theorem dX0_see_32 : decode cX0_see 32 = .ok (.aload_n 0, 1) := by decide +kernel
theorem dX0_see_33 : decode cX0_see 33 = .ok (.getfield 16, 3) := by decide +kernel
theorem dX0_see_36 : decode cX0_see 36 = .ok (.iload_n 2, 1) := by decide +kernel
theorem dX0_see_37 : decode cX0_see 37 = .ok (.iaload, 1) := by decide +kernel
theorem dX0_see_38 : decode cX0_see 38 = .ok (.iastore, 1) := by decide +kernel
theorem dX0_see_39 : decode cX0_see 39 = .ok (.return_, 1) := by decide +kernel
theorem dX0_read_0 : decode cX0_read 0 = .ok (.iload_n 1, 1) := by decide +kernel
theorem dX0_read_1 : decode cX0_read 1 = .ok (.invokestatic 75, 3) := by decide +kernel
theorem dX0_read_4 : decode cX0_read 4 = .ok (.ifCond .eq 5, 3) := by decide +kernel
theorem dX0_read_7 : decode cX0_read 7 = .ok (.iconst (-1), 1) := by decide +kernel
theorem dX0_read_8 : decode cX0_read 8 = .ok (.ireturn, 1) := by decide +kernel
theorem dX0_read_9 : decode cX0_read 9 = .ok (.iload_n 2, 1) := by decide +kernel
theorem dX0_read_10 : decode cX0_read 10 = .ok (.ifCond .lt 9, 3) := by decide +kernel
theorem dX0_read_13 : decode cX0_read 13 = .ok (.iload_n 2, 1) := by decide +kernel
theorem dX0_read_14 : decode cX0_read 14 = .ok (.bipush 6, 2) := by decide +kernel
theorem dX0_read_16 : decode cX0_read 16 = .ok (.if_icmp .lt 6, 3) := by decide +kernel
theorem dX0_read_19 : decode cX0_read 19 = .ok (.bipush (-2), 2) := by decide +kernel
theorem dX0_read_21 : decode cX0_read 21 = .ok (.ireturn, 1) := by decide +kernel
theorem dX0_read_22 : decode cX0_read 22 = .ok (.aload_n 0, 1) := by decide +kernel
theorem dX0_read_23 : decode cX0_read 23 = .ok (.getfield 32, 3) := by decide +kernel
theorem dX0_read_26 : decode cX0_read 26 = .ok (.aload_n 0, 1) := by decide +kernel
theorem dX0_read_27 : decode cX0_read 27 = .ok (.getfield 35, 3) := by decide +kernel
theorem dX0_read_30 : decode cX0_read 30 = .ok (.iload_n 1, 1) := by decide +kernel
theorem dX0_read_31 : decode cX0_read 31 = .ok (.iaload, 1) := by decide +kernel
theorem dX0_read_32 : decode cX0_read 32 = .ok (.bipush 6, 2) := by decide +kernel
theorem dX0_read_34 : decode cX0_read 34 = .ok (.imul, 1) := by decide +kernel
theorem dX0_read_35 : decode cX0_read 35 = .ok (.iload_n 2, 1) := by decide +kernel
theorem dX0_read_36 : decode cX0_read 36 = .ok (.iadd, 1) := by decide +kernel
theorem dX0_read_37 : decode cX0_read 37 = .ok (.iaload, 1) := by decide +kernel
theorem dX0_read_38 : decode cX0_read 38 = .ok (.istore_n 3, 1) := by decide +kernel
theorem dX0_read_39 : decode cX0_read 39 = .ok (.iload_n 3, 1) := by decide +kernel
theorem dX0_read_40 : decode cX0_read 40 = .ok (.ifCond .lt 9, 3) := by decide +kernel
theorem dX0_read_43 : decode cX0_read 43 = .ok (.aload_n 0, 1) := by decide +kernel
theorem dX0_read_44 : decode cX0_read 44 = .ok (.iload_n 1, 1) := by decide +kernel
theorem dX0_read_45 : decode cX0_read 45 = .ok (.iload_n 3, 1) := by decide +kernel
theorem dX0_read_46 : decode cX0_read 46 = .ok (.invokevirtual 83, 3) := by decide +kernel
theorem dX0_read_49 : decode cX0_read 49 = .ok (.iload_n 3, 1) := by decide +kernel
theorem dX0_read_50 : decode cX0_read 50 = .ok (.ireturn, 1) := by decide +kernel
theorem dX0_move_0 : decode cX0_move 0 = .ok (.iload_n 1, 1) := by decide +kernel
theorem dX0_move_1 : decode cX0_move 1 = .ok (.invokestatic 75, 3) := by decide +kernel
theorem dX0_move_4 : decode cX0_move 4 = .ok (.ifCond .eq 5, 3) := by decide +kernel
theorem dX0_move_7 : decode cX0_move 7 = .ok (.iconst (-1), 1) := by decide +kernel
theorem dX0_move_8 : decode cX0_move 8 = .ok (.ireturn, 1) := by decide +kernel
theorem dX0_move_9 : decode cX0_move 9 = .ok (.iload_n 2, 1) := by decide +kernel
theorem dX0_move_10 : decode cX0_move 10 = .ok (.invokestatic 86, 3) := by decide +kernel
theorem dX0_move_13 : decode cX0_move 13 = .ok (.ifCond .eq 6, 3) := by decide +kernel
theorem dX0_move_16 : decode cX0_move 16 = .ok (.bipush (-4), 2) := by decide +kernel
theorem dX0_move_18 : decode cX0_move 18 = .ok (.ireturn, 1) := by decide +kernel
theorem dX0_move_19 : decode cX0_move 19 = .ok (.aload_n 0, 1) := by decide +kernel
theorem dX0_move_20 : decode cX0_move 20 = .ok (.getfield 38, 3) := by decide +kernel
theorem dX0_move_23 : decode cX0_move 23 = .ok (.iload_n 1, 1) := by decide +kernel
theorem dX0_move_24 : decode cX0_move 24 = .ok (.laload, 1) := by decide +kernel
theorem dX0_move_25 : decode cX0_move 25 = .ok (.aload_n 0, 1) := by decide +kernel
theorem dX0_move_26 : decode cX0_move 26 = .ok (.getfield 26, 3) := by decide +kernel
theorem dX0_move_29 : decode cX0_move 29 = .ok (.iload_n 2, 1) := by decide +kernel
theorem dX0_move_30 : decode cX0_move 30 = .ok (.laload, 1) := by decide +kernel
theorem dX0_move_31 : decode cX0_move 31 = .ok (.ldc2_w 66, 3) := by decide +kernel
theorem dX0_move_34 : decode cX0_move 34 = .ok (.lxor, 1) := by decide +kernel
theorem dX0_move_35 : decode cX0_move 35 = .ok (.land, 1) := by decide +kernel
theorem dX0_move_36 : decode cX0_move 36 = .ok (.lconst 0, 1) := by decide +kernel
theorem dX0_move_37 : decode cX0_move 37 = .ok (.lcmp, 1) := by decide +kernel
theorem dX0_move_38 : decode cX0_move 38 = .ok (.ifCond .eq 6, 3) := by decide +kernel
theorem dX0_move_41 : decode cX0_move 41 = .ok (.bipush (-7), 2) := by decide +kernel
theorem dX0_move_43 : decode cX0_move 43 = .ok (.ireturn, 1) := by decide +kernel
theorem dX0_move_44 : decode cX0_move 44 = .ok (.aload_n 0, 1) := by decide +kernel
theorem dX0_move_45 : decode cX0_move 45 = .ok (.getfield 35, 3) := by decide +kernel
theorem dX0_move_48 : decode cX0_move 48 = .ok (.iload_n 1, 1) := by decide +kernel
theorem dX0_move_49 : decode cX0_move 49 = .ok (.iload_n 2, 1) := by decide +kernel
theorem dX0_move_50 : decode cX0_move 50 = .ok (.iastore, 1) := by decide +kernel
theorem dX0_move_51 : decode cX0_move 51 = .ok (.iconst 0, 1) := by decide +kernel
theorem dX0_move_52 : decode cX0_move 52 = .ok (.ireturn, 1) := by decide +kernel
theorem dX0_badCentre_0 : decode cX0_badCentre 0 = .ok (.iload_n 0, 1) := by decide +kernel
theorem dX0_badCentre_1 : decode cX0_badCentre 1 = .ok (.ifCond .lt 8, 3) := by decide +kernel
theorem dX0_badCentre_4 : decode cX0_badCentre 4 = .ok (.iload_n 0, 1) := by decide +kernel
theorem dX0_badCentre_5 : decode cX0_badCentre 5 = .ok (.iconst 3, 1) := by decide +kernel
theorem dX0_badCentre_6 : decode cX0_badCentre 6 = .ok (.if_icmp .lt 7, 3) := by decide +kernel
theorem dX0_badCentre_9 : decode cX0_badCentre 9 = .ok (.iconst 1, 1) := by decide +kernel
theorem dX0_badCentre_10 : decode cX0_badCentre 10 = .ok (.goto 4, 3) := by decide +kernel
theorem dX0_badCentre_13 : decode cX0_badCentre 13 = .ok (.iconst 0, 1) := by decide +kernel
theorem dX0_badCentre_14 : decode cX0_badCentre 14 = .ok (.ireturn, 1) := by decide +kernel
theorem dX0_deliver_0 : decode cX0_deliver 0 = .ok (.aload_n 0, 1) := by decide +kernel
theorem dX0_deliver_1 : decode cX0_deliver 1 = .ok (.iload_n 1, 1) := by decide +kernel
theorem dX0_deliver_2 : decode cX0_deliver 2 = .ok (.invokevirtual 89, 3) := by decide +kernel
theorem dX0_deliver_5 : decode cX0_deliver 5 = .ok (.ifCond .eq 6, 3) := by decide +kernel
theorem dX0_deliver_8 : decode cX0_deliver 8 = .ok (.bipush (-5), 2) := by decide +kernel
theorem dX0_deliver_10 : decode cX0_deliver 10 = .ok (.ireturn, 1) := by decide +kernel
theorem dX0_deliver_11 : decode cX0_deliver 11 = .ok (.iload_n 2, 1) := by decide +kernel
theorem dX0_deliver_12 : decode cX0_deliver 12 = .ok (.invokestatic 86, 3) := by decide +kernel
theorem dX0_deliver_15 : decode cX0_deliver 15 = .ok (.ifCond .eq 6, 3) := by decide +kernel
theorem dX0_deliver_18 : decode cX0_deliver 18 = .ok (.bipush (-4), 2) := by decide +kernel
theorem dX0_deliver_20 : decode cX0_deliver 20 = .ok (.ireturn, 1) := by decide +kernel
theorem dX0_deliver_21 : decode cX0_deliver 21 = .ok (.aload_n 0, 1) := by decide +kernel
theorem dX0_deliver_22 : decode cX0_deliver 22 = .ok (.getfield 23, 3) := by decide +kernel
theorem dX0_deliver_25 : decode cX0_deliver 25 = .ok (.iload_n 2, 1) := by decide +kernel
theorem dX0_deliver_26 : decode cX0_deliver 26 = .ok (.laload, 1) := by decide +kernel
theorem dX0_deliver_27 : decode cX0_deliver 27 = .ok (.iload_n 1, 1) := by decide +kernel
theorem dX0_deliver_28 : decode cX0_deliver 28 = .ok (.invokestatic 55, 3) := by decide +kernel
theorem dX0_deliver_31 : decode cX0_deliver 31 = .ok (.ifCond .eq 6, 3) := by decide +kernel
theorem dX0_deliver_34 : decode cX0_deliver 34 = .ok (.bipush (-6), 2) := by decide +kernel
theorem dX0_deliver_36 : decode cX0_deliver 36 = .ok (.ireturn, 1) := by decide +kernel
theorem dX0_deliver_37 : decode cX0_deliver 37 = .ok (.aload_n 0, 1) := by decide +kernel
theorem dX0_deliver_38 : decode cX0_deliver 38 = .ok (.iload_n 2, 1) := by decide +kernel
theorem dX0_deliver_39 : decode cX0_deliver 39 = .ok (.iload_n 1, 1) := by decide +kernel
theorem dX0_deliver_40 : decode cX0_deliver 40 = .ok (.invokevirtual 79, 3) := by decide +kernel
theorem dX0_deliver_43 : decode cX0_deliver 43 = .ok (.ireturn, 1) := by decide +kernel
theorem dX0_noVersion_0 : decode cX0_noVersion 0 = .ok (.iload_n 1, 1) := by decide +kernel
theorem dX0_noVersion_1 : decode cX0_noVersion 1 = .ok (.ifCond .lt 11, 3) := by decide +kernel
theorem dX0_noVersion_4 : decode cX0_noVersion 4 = .ok (.iload_n 1, 1) := by decide +kernel
theorem dX0_noVersion_5 : decode cX0_noVersion 5 = .ok (.aload_n 0, 1) := by decide +kernel
theorem dX0_noVersion_6 : decode cX0_noVersion 6 = .ok (.getfield 47, 3) := by decide +kernel
theorem dX0_noVersion_9 : decode cX0_noVersion 9 = .ok (.if_icmp .lt 7, 3) := by decide +kernel
theorem dX0_noVersion_12 : decode cX0_noVersion 12 = .ok (.iconst 1, 1) := by decide +kernel
theorem dX0_noVersion_13 : decode cX0_noVersion 13 = .ok (.goto 4, 3) := by decide +kernel
theorem dX0_noVersion_16 : decode cX0_noVersion 16 = .ok (.iconst 0, 1) := by decide +kernel
theorem dX0_noVersion_17 : decode cX0_noVersion 17 = .ok (.ireturn, 1) := by decide +kernel
theorem dX0_deliverAll_0 : decode cX0_deliverAll 0 = .ok (.iload_n 1, 1) := by decide +kernel
theorem dX0_deliverAll_1 : decode cX0_deliverAll 1 = .ok (.invokestatic 86, 3) := by decide +kernel
theorem dX0_deliverAll_4 : decode cX0_deliverAll 4 = .ok (.ifCond .eq 6, 3) := by decide +kernel
theorem dX0_deliverAll_7 : decode cX0_deliverAll 7 = .ok (.bipush (-4), 2) := by decide +kernel
theorem dX0_deliverAll_9 : decode cX0_deliverAll 9 = .ok (.ireturn, 1) := by decide +kernel
theorem dX0_deliverAll_10 : decode cX0_deliverAll 10 = .ok (.iconst 0, 1) := by decide +kernel
theorem dX0_deliverAll_11 : decode cX0_deliverAll 11 = .ok (.istore_n 2, 1) := by decide +kernel
theorem dX0_deliverAll_12 : decode cX0_deliverAll 12 = .ok (.iconst 0, 1) := by decide +kernel
theorem dX0_deliverAll_13 : decode cX0_deliverAll 13 = .ok (.istore_n 3, 1) := by decide +kernel
theorem dX0_deliverAll_14 : decode cX0_deliverAll 14 = .ok (.iload_n 3, 1) := by decide +kernel
theorem dX0_deliverAll_15 : decode cX0_deliverAll 15 = .ok (.aload_n 0, 1) := by decide +kernel
theorem dX0_deliverAll_16 : decode cX0_deliverAll 16 = .ok (.getfield 47, 3) := by decide +kernel
theorem dX0_deliverAll_19 : decode cX0_deliverAll 19 = .ok (.if_icmp .ge 35, 3) := by decide +kernel
theorem dX0_deliverAll_22 : decode cX0_deliverAll 22 = .ok (.aload_n 0, 1) := by decide +kernel
theorem dX0_deliverAll_23 : decode cX0_deliverAll 23 = .ok (.getfield 23, 3) := by decide +kernel
theorem dX0_deliverAll_26 : decode cX0_deliverAll 26 = .ok (.iload_n 1, 1) := by decide +kernel
theorem dX0_deliverAll_27 : decode cX0_deliverAll 27 = .ok (.laload, 1) := by decide +kernel
theorem dX0_deliverAll_28 : decode cX0_deliverAll 28 = .ok (.iload_n 3, 1) := by decide +kernel
theorem dX0_deliverAll_29 : decode cX0_deliverAll 29 = .ok (.invokestatic 55, 3) := by decide +kernel
theorem dX0_deliverAll_32 : decode cX0_deliverAll 32 = .ok (.istore 4, 2) := by decide +kernel
theorem dX0_deliverAll_34 : decode cX0_deliverAll 34 = .ok (.iload 4, 2) := by decide +kernel
theorem dX0_deliverAll_36 : decode cX0_deliverAll 36 = .ok (.ifCond .ne 12, 3) := by decide +kernel
theorem dX0_deliverAll_39 : decode cX0_deliverAll 39 = .ok (.iload_n 2, 1) := by decide +kernel
theorem dX0_deliverAll_40 : decode cX0_deliverAll 40 = .ok (.aload_n 0, 1) := by decide +kernel
theorem dX0_deliverAll_41 : decode cX0_deliverAll 41 = .ok (.iload_n 1, 1) := by decide +kernel
theorem dX0_deliverAll_42 : decode cX0_deliverAll 42 = .ok (.iload_n 3, 1) := by decide +kernel
theorem dX0_deliverAll_43 : decode cX0_deliverAll 43 = .ok (.invokevirtual 79, 3) := by decide +kernel
theorem dX0_deliverAll_46 : decode cX0_deliverAll 46 = .ok (.iadd, 1) := by decide +kernel
theorem dX0_deliverAll_47 : decode cX0_deliverAll 47 = .ok (.istore_n 2, 1) := by decide +kernel
theorem dX0_deliverAll_48 : decode cX0_deliverAll 48 = .ok (.iinc 3 1, 3) := by decide +kernel
theorem dX0_deliverAll_51 : decode cX0_deliverAll 51 = .ok (.goto (-37), 3) := by decide +kernel
theorem dX0_deliverAll_54 : decode cX0_deliverAll 54 = .ok (.iload_n 2, 1) := by decide +kernel
theorem dX0_deliverAll_55 : decode cX0_deliverAll 55 = .ok (.ireturn, 1) := by decide +kernel
theorem dX0_visible_0 : decode cX0_visible 0 = .ok (.aload_n 0, 1) := by decide +kernel
theorem dX0_visible_1 : decode cX0_visible 1 = .ok (.iload_n 1, 1) := by decide +kernel
theorem dX0_visible_2 : decode cX0_visible 2 = .ok (.invokevirtual 89, 3) := by decide +kernel
theorem dX0_visible_5 : decode cX0_visible 5 = .ok (.ifCond .ne 10, 3) := by decide +kernel
theorem dX0_visible_8 : decode cX0_visible 8 = .ok (.iload_n 2, 1) := by decide +kernel
theorem dX0_visible_9 : decode cX0_visible 9 = .ok (.invokestatic 86, 3) := by decide +kernel
theorem dX0_visible_12 : decode cX0_visible 12 = .ok (.ifCond .eq 5, 3) := by decide +kernel
theorem dX0_visible_15 : decode cX0_visible 15 = .ok (.iconst 0, 1) := by decide +kernel
theorem dX0_visible_16 : decode cX0_visible 16 = .ok (.ireturn, 1) := by decide +kernel
theorem dX0_visible_17 : decode cX0_visible 17 = .ok (.aload_n 0, 1) := by decide +kernel
theorem dX0_visible_18 : decode cX0_visible 18 = .ok (.getfield 26, 3) := by decide +kernel
theorem dX0_visible_21 : decode cX0_visible 21 = .ok (.iload_n 2, 1) := by decide +kernel
theorem dX0_visible_22 : decode cX0_visible 22 = .ok (.laload, 1) := by decide +kernel
theorem dX0_visible_23 : decode cX0_visible 23 = .ok (.iload_n 1, 1) := by decide +kernel
theorem dX0_visible_24 : decode cX0_visible 24 = .ok (.invokestatic 55, 3) := by decide +kernel
theorem dX0_visible_27 : decode cX0_visible 27 = .ok (.ireturn, 1) := by decide +kernel
theorem dX0_winner_0 : decode cX0_winner 0 = .ok (.iload_n 1, 1) := by decide +kernel
theorem dX0_winner_1 : decode cX0_winner 1 = .ok (.invokestatic 86, 3) := by decide +kernel
theorem dX0_winner_4 : decode cX0_winner 4 = .ok (.ifCond .eq 6, 3) := by decide +kernel
theorem dX0_winner_7 : decode cX0_winner 7 = .ok (.bipush (-4), 2) := by decide +kernel
theorem dX0_winner_9 : decode cX0_winner 9 = .ok (.ireturn, 1) := by decide +kernel
theorem dX0_winner_10 : decode cX0_winner 10 = .ok (.iload_n 2, 1) := by decide +kernel
theorem dX0_winner_11 : decode cX0_winner 11 = .ok (.ifCond .lt 9, 3) := by decide +kernel
theorem dX0_winner_14 : decode cX0_winner 14 = .ok (.iload_n 2, 1) := by decide +kernel
theorem dX0_winner_15 : decode cX0_winner 15 = .ok (.bipush 6, 2) := by decide +kernel
theorem dX0_winner_17 : decode cX0_winner 17 = .ok (.if_icmp .lt 6, 3) := by decide +kernel
theorem dX0_winner_20 : decode cX0_winner 20 = .ok (.bipush (-2), 2) := by decide +kernel
theorem dX0_winner_22 : decode cX0_winner 22 = .ok (.ireturn, 1) := by decide +kernel
theorem dX0_winner_23 : decode cX0_winner 23 = .ok (.aload_n 0, 1) := by decide +kernel
theorem dX0_winner_24 : decode cX0_winner 24 = .ok (.getfield 32, 3) := by decide +kernel
theorem dX0_winner_27 : decode cX0_winner 27 = .ok (.iload_n 1, 1) := by decide +kernel
theorem dX0_winner_28 : decode cX0_winner 28 = .ok (.bipush 6, 2) := by decide +kernel
theorem dX0_winner_30 : decode cX0_winner 30 = .ok (.imul, 1) := by decide +kernel
theorem dX0_winner_31 : decode cX0_winner 31 = .ok (.iload_n 2, 1) := by decide +kernel
theorem dX0_winner_32 : decode cX0_winner 32 = .ok (.iadd, 1) := by decide +kernel
theorem dX0_winner_33 : decode cX0_winner 33 = .ok (.iaload, 1) := by decide +kernel
theorem dX0_winner_34 : decode cX0_winner 34 = .ok (.ireturn, 1) := by decide +kernel
theorem dX0_value_0 : decode cX0_value 0 = .ok (.aload_n 0, 1) := by decide +kernel
theorem dX0_value_1 : decode cX0_value 1 = .ok (.iload_n 1, 1) := by decide +kernel
theorem dX0_value_2 : decode cX0_value 2 = .ok (.invokevirtual 89, 3) := by decide +kernel
theorem dX0_value_5 : decode cX0_value 5 = .ok (.ifCond .eq 7, 3) := by decide +kernel
theorem dX0_value_8 : decode cX0_value 8 = .ok (.iconst 0, 1) := by decide +kernel
theorem dX0_value_9 : decode cX0_value 9 = .ok (.goto 9, 3) := by decide +kernel
theorem dX0_value_12 : decode cX0_value 12 = .ok (.aload_n 0, 1) := by decide +kernel
theorem dX0_value_13 : decode cX0_value 13 = .ok (.getfield 13, 3) := by decide +kernel
theorem dX0_value_16 : decode cX0_value 16 = .ok (.iload_n 1, 1) := by decide +kernel
theorem dX0_value_17 : decode cX0_value 17 = .ok (.iaload, 1) := by decide +kernel
theorem dX0_value_18 : decode cX0_value 18 = .ok (.ireturn, 1) := by decide +kernel
theorem dX0_stamp_0 : decode cX0_stamp 0 = .ok (.aload_n 0, 1) := by decide +kernel
theorem dX0_stamp_1 : decode cX0_stamp 1 = .ok (.iload_n 1, 1) := by decide +kernel
theorem dX0_stamp_2 : decode cX0_stamp 2 = .ok (.invokevirtual 89, 3) := by decide +kernel
theorem dX0_stamp_5 : decode cX0_stamp 5 = .ok (.ifCond .eq 8, 3) := by decide +kernel
theorem dX0_stamp_8 : decode cX0_stamp 8 = .ok (.bipush (-5), 2) := by decide +kernel
theorem dX0_stamp_10 : decode cX0_stamp 10 = .ok (.goto 9, 3) := by decide +kernel
theorem dX0_stamp_13 : decode cX0_stamp 13 = .ok (.aload_n 0, 1) := by decide +kernel
theorem dX0_stamp_14 : decode cX0_stamp 14 = .ok (.getfield 16, 3) := by decide +kernel
theorem dX0_stamp_17 : decode cX0_stamp 17 = .ok (.iload_n 1, 1) := by decide +kernel
theorem dX0_stamp_18 : decode cX0_stamp 18 = .ok (.iaload, 1) := by decide +kernel
theorem dX0_stamp_19 : decode cX0_stamp 19 = .ok (.ireturn, 1) := by decide +kernel
theorem dX0_depends_0 : decode cX0_depends 0 = .ok (.aload_n 0, 1) := by decide +kernel
theorem dX0_depends_1 : decode cX0_depends 1 = .ok (.iload_n 1, 1) := by decide +kernel
theorem dX0_depends_2 : decode cX0_depends 2 = .ok (.invokevirtual 89, 3) := by decide +kernel
theorem dX0_depends_5 : decode cX0_depends 5 = .ok (.ifCond .ne 11, 3) := by decide +kernel
theorem dX0_depends_8 : decode cX0_depends 8 = .ok (.aload_n 0, 1) := by decide +kernel
theorem dX0_depends_9 : decode cX0_depends 9 = .ok (.iload_n 2, 1) := by decide +kernel
theorem dX0_depends_10 : decode cX0_depends 10 = .ok (.invokevirtual 89, 3) := by decide +kernel
theorem dX0_depends_13 : decode cX0_depends 13 = .ok (.ifCond .eq 5, 3) := by decide +kernel
theorem dX0_depends_16 : decode cX0_depends 16 = .ok (.iconst 0, 1) := by decide +kernel
theorem dX0_depends_17 : decode cX0_depends 17 = .ok (.ireturn, 1) := by decide +kernel
theorem dX0_depends_18 : decode cX0_depends 18 = .ok (.aload_n 0, 1) := by decide +kernel
theorem dX0_depends_19 : decode cX0_depends 19 = .ok (.getfield 19, 3) := by decide +kernel
theorem dX0_depends_22 : decode cX0_depends 22 = .ok (.iload_n 1, 1) := by decide +kernel
theorem dX0_depends_23 : decode cX0_depends 23 = .ok (.laload, 1) := by decide +kernel
theorem dX0_depends_24 : decode cX0_depends 24 = .ok (.iload_n 2, 1) := by decide +kernel
theorem dX0_depends_25 : decode cX0_depends 25 = .ok (.invokestatic 55, 3) := by decide +kernel
theorem dX0_depends_28 : decode cX0_depends 28 = .ok (.ireturn, 1) := by decide +kernel
theorem dX0_held_0 : decode cX0_held 0 = .ok (.iload_n 1, 1) := by decide +kernel
theorem dX0_held_1 : decode cX0_held 1 = .ok (.invokestatic 86, 3) := by decide +kernel
theorem dX0_held_4 : decode cX0_held 4 = .ok (.ifCond .eq 6, 3) := by decide +kernel
theorem dX0_held_7 : decode cX0_held 7 = .ok (.bipush (-4), 2) := by decide +kernel
theorem dX0_held_9 : decode cX0_held 9 = .ok (.ireturn, 1) := by decide +kernel
theorem dX0_held_10 : decode cX0_held 10 = .ok (.aload_n 0, 1) := by decide +kernel
theorem dX0_held_11 : decode cX0_held 11 = .ok (.getfield 23, 3) := by decide +kernel
theorem dX0_held_14 : decode cX0_held 14 = .ok (.iload_n 1, 1) := by decide +kernel
theorem dX0_held_15 : decode cX0_held 15 = .ok (.laload, 1) := by decide +kernel
theorem dX0_held_16 : decode cX0_held 16 = .ok (.aload_n 0, 1) := by decide +kernel
theorem dX0_held_17 : decode cX0_held 17 = .ok (.getfield 26, 3) := by decide +kernel
theorem dX0_held_20 : decode cX0_held 20 = .ok (.iload_n 1, 1) := by decide +kernel
theorem dX0_held_21 : decode cX0_held 21 = .ok (.laload, 1) := by decide +kernel
theorem dX0_held_22 : decode cX0_held 22 = .ok (.ldc2_w 66, 3) := by decide +kernel
theorem dX0_held_25 : decode cX0_held 25 = .ok (.lxor, 1) := by decide +kernel
theorem dX0_held_26 : decode cX0_held 26 = .ok (.land, 1) := by decide +kernel
theorem dX0_held_27 : decode cX0_held 27 = .ok (.invokestatic 68, 3) := by decide +kernel
theorem dX0_held_30 : decode cX0_held 30 = .ok (.ireturn, 1) := by decide +kernel
theorem dX0_seen_0 : decode cX0_seen 0 = .ok (.iload_n 1, 1) := by decide +kernel
theorem dX0_seen_1 : decode cX0_seen 1 = .ok (.invokestatic 75, 3) := by decide +kernel
theorem dX0_seen_4 : decode cX0_seen 4 = .ok (.ifCond .eq 5, 3) := by decide +kernel
theorem dX0_seen_7 : decode cX0_seen 7 = .ok (.iconst (-1), 1) := by decide +kernel
theorem dX0_seen_8 : decode cX0_seen 8 = .ok (.ireturn, 1) := by decide +kernel
theorem dX0_seen_9 : decode cX0_seen 9 = .ok (.aload_n 0, 1) := by decide +kernel
theorem dX0_seen_10 : decode cX0_seen 10 = .ok (.getfield 38, 3) := by decide +kernel
theorem dX0_seen_13 : decode cX0_seen 13 = .ok (.iload_n 1, 1) := by decide +kernel
theorem dX0_seen_14 : decode cX0_seen 14 = .ok (.laload, 1) := by decide +kernel
theorem dX0_seen_15 : decode cX0_seen 15 = .ok (.invokestatic 68, 3) := by decide +kernel
theorem dX0_seen_18 : decode cX0_seen 18 = .ok (.ireturn, 1) := by decide +kernel
theorem dX0_agree_0 : decode cX0_agree 0 = .ok (.iload_n 1, 1) := by decide +kernel
theorem dX0_agree_1 : decode cX0_agree 1 = .ok (.invokestatic 86, 3) := by decide +kernel
theorem dX0_agree_4 : decode cX0_agree 4 = .ok (.ifCond .ne 10, 3) := by decide +kernel
theorem dX0_agree_7 : decode cX0_agree 7 = .ok (.iload_n 2, 1) := by decide +kernel
theorem dX0_agree_8 : decode cX0_agree 8 = .ok (.invokestatic 86, 3) := by decide +kernel
theorem dX0_agree_11 : decode cX0_agree 11 = .ok (.ifCond .eq 6, 3) := by decide +kernel
theorem dX0_agree_14 : decode cX0_agree 14 = .ok (.bipush (-4), 2) := by decide +kernel
theorem dX0_agree_16 : decode cX0_agree 16 = .ok (.ireturn, 1) := by decide +kernel
theorem dX0_agree_17 : decode cX0_agree 17 = .ok (.iconst 0, 1) := by decide +kernel
theorem dX0_agree_18 : decode cX0_agree 18 = .ok (.istore_n 3, 1) := by decide +kernel
theorem dX0_agree_19 : decode cX0_agree 19 = .ok (.iconst 0, 1) := by decide +kernel
theorem dX0_agree_20 : decode cX0_agree 20 = .ok (.istore 4, 2) := by decide +kernel
theorem dX0_agree_22 : decode cX0_agree 22 = .ok (.iload 4, 2) := by decide +kernel
theorem dX0_agree_24 : decode cX0_agree 24 = .ok (.bipush 6, 2) := by decide +kernel
theorem dX0_agree_26 : decode cX0_agree 26 = .ok (.if_icmp .ge 39, 3) := by decide +kernel
theorem dX0_agree_29 : decode cX0_agree 29 = .ok (.aload_n 0, 1) := by decide +kernel
theorem dX0_agree_30 : decode cX0_agree 30 = .ok (.getfield 32, 3) := by decide +kernel
theorem dX0_agree_33 : decode cX0_agree 33 = .ok (.iload_n 1, 1) := by decide +kernel
theorem dX0_agree_34 : decode cX0_agree 34 = .ok (.bipush 6, 2) := by decide +kernel
theorem dX0_agree_36 : decode cX0_agree 36 = .ok (.imul, 1) := by decide +kernel
theorem dX0_agree_37 : decode cX0_agree 37 = .ok (.iload 4, 2) := by decide +kernel
theorem dX0_agree_39 : decode cX0_agree 39 = .ok (.iadd, 1) := by decide +kernel
theorem dX0_agree_40 : decode cX0_agree 40 = .ok (.iaload, 1) := by decide +kernel
theorem dX0_agree_41 : decode cX0_agree 41 = .ok (.aload_n 0, 1) := by decide +kernel
theorem dX0_agree_42 : decode cX0_agree 42 = .ok (.getfield 32, 3) := by decide +kernel
theorem dX0_agree_45 : decode cX0_agree 45 = .ok (.iload_n 2, 1) := by decide +kernel
theorem dX0_agree_46 : decode cX0_agree 46 = .ok (.bipush 6, 2) := by decide +kernel
theorem dX0_agree_48 : decode cX0_agree 48 = .ok (.imul, 1) := by decide +kernel
theorem dX0_agree_49 : decode cX0_agree 49 = .ok (.iload 4, 2) := by decide +kernel
theorem dX0_agree_51 : decode cX0_agree 51 = .ok (.iadd, 1) := by decide +kernel
theorem dX0_agree_52 : decode cX0_agree 52 = .ok (.iaload, 1) := by decide +kernel
theorem dX0_agree_53 : decode cX0_agree 53 = .ok (.if_icmp .ne 6, 3) := by decide +kernel
theorem dX0_agree_56 : decode cX0_agree 56 = .ok (.iinc 3 1, 3) := by decide +kernel
theorem dX0_agree_59 : decode cX0_agree 59 = .ok (.iinc 4 1, 3) := by decide +kernel
theorem dX0_agree_62 : decode cX0_agree 62 = .ok (.goto (-40), 3) := by decide +kernel
theorem dX0_agree_65 : decode cX0_agree 65 = .ok (.iload_n 3, 1) := by decide +kernel
theorem dX0_agree_66 : decode cX0_agree 66 = .ok (.ireturn, 1) := by decide +kernel
end
section
set_option maxRecDepth 100000
theorem dX1_init_0 : decode cX1_init 0 = .ok (.aload_n 0, 1) := by decide +kernel
theorem dX1_init_1 : decode cX1_init 1 = .ok (.invokespecial 1, 3) := by decide +kernel
theorem dX1_init_4 : decode cX1_init 4 = .ok (.aload_n 0, 1) := by decide +kernel
theorem dX1_init_5 : decode cX1_init 5 = .ok (.bipush 40, 2) := by decide +kernel
theorem dX1_init_7 : decode cX1_init 7 = .ok (.newarray .int, 2) := by decide +kernel
theorem dX1_init_9 : decode cX1_init 9 = .ok (.putfield 7, 3) := by decide +kernel
theorem dX1_init_12 : decode cX1_init 12 = .ok (.aload_n 0, 1) := by decide +kernel
theorem dX1_init_13 : decode cX1_init 13 = .ok (.bipush 40, 2) := by decide +kernel
theorem dX1_init_15 : decode cX1_init 15 = .ok (.newarray .int, 2) := by decide +kernel
theorem dX1_init_17 : decode cX1_init 17 = .ok (.putfield 13, 3) := by decide +kernel
theorem dX1_init_20 : decode cX1_init 20 = .ok (.aload_n 0, 1) := by decide +kernel
theorem dX1_init_21 : decode cX1_init 21 = .ok (.bipush 40, 2) := by decide +kernel
theorem dX1_init_23 : decode cX1_init 23 = .ok (.newarray .int, 2) := by decide +kernel
theorem dX1_init_25 : decode cX1_init 25 = .ok (.putfield 16, 3) := by decide +kernel
theorem dX1_init_28 : decode cX1_init 28 = .ok (.aload_n 0, 1) := by decide +kernel
theorem dX1_init_29 : decode cX1_init 29 = .ok (.sipush 1600, 3) := by decide +kernel
theorem dX1_init_32 : decode cX1_init 32 = .ok (.newarray .boolean, 2) := by decide +kernel
theorem dX1_init_34 : decode cX1_init 34 = .ok (.putfield 19, 3) := by decide +kernel
theorem dX1_init_37 : decode cX1_init 37 = .ok (.aload_n 0, 1) := by decide +kernel
theorem dX1_init_38 : decode cX1_init 38 = .ok (.bipush 120, 2) := by decide +kernel
theorem dX1_init_40 : decode cX1_init 40 = .ok (.newarray .boolean, 2) := by decide +kernel
theorem dX1_init_42 : decode cX1_init 42 = .ok (.putfield 23, 3) := by decide +kernel
theorem dX1_init_45 : decode cX1_init 45 = .ok (.aload_n 0, 1) := by decide +kernel
theorem dX1_init_46 : decode cX1_init 46 = .ok (.bipush 120, 2) := by decide +kernel
theorem dX1_init_48 : decode cX1_init 48 = .ok (.newarray .boolean, 2) := by decide +kernel
theorem dX1_init_50 : decode cX1_init 50 = .ok (.putfield 26, 3) := by decide +kernel
theorem dX1_init_53 : decode cX1_init 53 = .ok (.aload_n 0, 1) := by decide +kernel
theorem dX1_init_54 : decode cX1_init 54 = .ok (.iconst 3, 1) := by decide +kernel
theorem dX1_init_55 : decode cX1_init 55 = .ok (.newarray .int, 2) := by decide +kernel
theorem dX1_init_57 : decode cX1_init 57 = .ok (.putfield 29, 3) := by decide +kernel
theorem dX1_init_60 : decode cX1_init 60 = .ok (.aload_n 0, 1) := by decide +kernel
theorem dX1_init_61 : decode cX1_init 61 = .ok (.bipush 40, 2) := by decide +kernel
theorem dX1_init_63 : decode cX1_init 63 = .ok (.newarray .boolean, 2) := by decide +kernel
theorem dX1_init_65 : decode cX1_init 65 = .ok (.putfield 32, 3) := by decide +kernel
theorem dX1_init_68 : decode cX1_init 68 = .ok (.iconst 0, 1) := by decide +kernel
theorem dX1_init_69 : decode cX1_init 69 = .ok (.istore_n 1, 1) := by decide +kernel
theorem dX1_init_70 : decode cX1_init 70 = .ok (.iload_n 1, 1) := by decide +kernel
theorem dX1_init_71 : decode cX1_init 71 = .ok (.iconst 3, 1) := by decide +kernel
theorem dX1_init_72 : decode cX1_init 72 = .ok (.if_icmp .ge 16, 3) := by decide +kernel
theorem dX1_init_75 : decode cX1_init 75 = .ok (.aload_n 0, 1) := by decide +kernel
theorem dX1_init_76 : decode cX1_init 76 = .ok (.getfield 29, 3) := by decide +kernel
theorem dX1_init_79 : decode cX1_init 79 = .ok (.iload_n 1, 1) := by decide +kernel
theorem dX1_init_80 : decode cX1_init 80 = .ok (.iload_n 1, 1) := by decide +kernel
theorem dX1_init_81 : decode cX1_init 81 = .ok (.iastore, 1) := by decide +kernel
theorem dX1_init_82 : decode cX1_init 82 = .ok (.iinc 1 1, 3) := by decide +kernel
theorem dX1_init_85 : decode cX1_init 85 = .ok (.goto (-15), 3) := by decide +kernel
theorem dX1_init_88 : decode cX1_init 88 = .ok (.return_, 1) := by decide +kernel
theorem dX1_write_0 : decode cX1_write 0 = .ok (.aload_n 0, 1) := by decide +kernel
theorem dX1_write_1 : decode cX1_write 1 = .ok (.iload_n 1, 1) := by decide +kernel
theorem dX1_write_2 : decode cX1_write 2 = .ok (.invokevirtual 43, 3) := by decide +kernel
theorem dX1_write_5 : decode cX1_write 5 = .ok (.ifCond .ne 5, 3) := by decide +kernel
theorem dX1_write_8 : decode cX1_write 8 = .ok (.iconst (-1), 1) := by decide +kernel
theorem dX1_write_9 : decode cX1_write 9 = .ok (.ireturn, 1) := by decide +kernel
theorem dX1_write_10 : decode cX1_write 10 = .ok (.aload_n 0, 1) := by decide +kernel
theorem dX1_write_11 : decode cX1_write 11 = .ok (.iload_n 2, 1) := by decide +kernel
theorem dX1_write_12 : decode cX1_write 12 = .ok (.invokevirtual 46, 3) := by decide +kernel
theorem dX1_write_15 : decode cX1_write 15 = .ok (.ifCond .ne 6, 3) := by decide +kernel
theorem dX1_write_18 : decode cX1_write 18 = .ok (.bipush (-2), 2) := by decide +kernel
theorem dX1_write_20 : decode cX1_write 20 = .ok (.ireturn, 1) := by decide +kernel
theorem dX1_write_21 : decode cX1_write 21 = .ok (.aload_n 0, 1) := by decide +kernel
theorem dX1_write_22 : decode cX1_write 22 = .ok (.getfield 35, 3) := by decide +kernel
theorem dX1_write_25 : decode cX1_write 25 = .ok (.bipush 40, 2) := by decide +kernel
theorem dX1_write_27 : decode cX1_write 27 = .ok (.if_icmp .ne 6, 3) := by decide +kernel
theorem dX1_write_30 : decode cX1_write 30 = .ok (.bipush (-3), 2) := by decide +kernel
theorem dX1_write_32 : decode cX1_write 32 = .ok (.ireturn, 1) := by decide +kernel
theorem dX1_write_33 : decode cX1_write 33 = .ok (.iconst 0, 1) := by decide +kernel
theorem dX1_write_34 : decode cX1_write 34 = .ok (.istore 4, 2) := by decide +kernel
theorem dX1_write_36 : decode cX1_write 36 = .ok (.iconst 0, 1) := by decide +kernel
theorem dX1_write_37 : decode cX1_write 37 = .ok (.istore 5, 2) := by decide +kernel
theorem dX1_write_39 : decode cX1_write 39 = .ok (.iload 5, 2) := by decide +kernel
theorem dX1_write_41 : decode cX1_write 41 = .ok (.aload_n 0, 1) := by decide +kernel
theorem dX1_write_42 : decode cX1_write 42 = .ok (.getfield 35, 3) := by decide +kernel
theorem dX1_write_45 : decode cX1_write 45 = .ok (.if_icmp .ge 72, 3) := by decide +kernel
theorem dX1_write_48 : decode cX1_write 48 = .ok (.aload_n 0, 1) := by decide +kernel
theorem dX1_write_49 : decode cX1_write 49 = .ok (.getfield 19, 3) := by decide +kernel
theorem dX1_write_52 : decode cX1_write 52 = .ok (.aload_n 0, 1) := by decide +kernel
theorem dX1_write_53 : decode cX1_write 53 = .ok (.getfield 35, 3) := by decide +kernel
theorem dX1_write_56 : decode cX1_write 56 = .ok (.bipush 40, 2) := by decide +kernel
theorem dX1_write_58 : decode cX1_write 58 = .ok (.imul, 1) := by decide +kernel
theorem dX1_write_59 : decode cX1_write 59 = .ok (.iload 5, 2) := by decide +kernel
theorem dX1_write_61 : decode cX1_write 61 = .ok (.iadd, 1) := by decide +kernel
theorem dX1_write_62 : decode cX1_write 62 = .ok (.aload_n 0, 1) := by decide +kernel
theorem dX1_write_63 : decode cX1_write 63 = .ok (.getfield 26, 3) := by decide +kernel
theorem dX1_write_66 : decode cX1_write 66 = .ok (.iload_n 1, 1) := by decide +kernel
theorem dX1_write_67 : decode cX1_write 67 = .ok (.bipush 40, 2) := by decide +kernel
theorem dX1_write_69 : decode cX1_write 69 = .ok (.imul, 1) := by decide +kernel
theorem dX1_write_70 : decode cX1_write 70 = .ok (.iload 5, 2) := by decide +kernel
theorem dX1_write_72 : decode cX1_write 72 = .ok (.iadd, 1) := by decide +kernel
theorem dX1_write_73 : decode cX1_write 73 = .ok (.baload, 1) := by decide +kernel
theorem dX1_write_74 : decode cX1_write 74 = .ok (.bastore, 1) := by decide +kernel
theorem dX1_write_75 : decode cX1_write 75 = .ok (.aload_n 0, 1) := by decide +kernel
theorem dX1_write_76 : decode cX1_write 76 = .ok (.getfield 26, 3) := by decide +kernel
theorem dX1_write_79 : decode cX1_write 79 = .ok (.iload_n 1, 1) := by decide +kernel
theorem dX1_write_80 : decode cX1_write 80 = .ok (.bipush 40, 2) := by decide +kernel
theorem dX1_write_82 : decode cX1_write 82 = .ok (.imul, 1) := by decide +kernel
theorem dX1_write_83 : decode cX1_write 83 = .ok (.iload 5, 2) := by decide +kernel
theorem dX1_write_85 : decode cX1_write 85 = .ok (.iadd, 1) := by decide +kernel
theorem dX1_write_86 : decode cX1_write 86 = .ok (.baload, 1) := by decide +kernel
theorem dX1_write_87 : decode cX1_write 87 = .ok (.ifCond .eq 24, 3) := by decide +kernel
theorem dX1_write_90 : decode cX1_write 90 = .ok (.aload_n 0, 1) := by decide +kernel
theorem dX1_write_91 : decode cX1_write 91 = .ok (.getfield 16, 3) := by decide +kernel
theorem dX1_write_94 : decode cX1_write 94 = .ok (.iload 5, 2) := by decide +kernel
theorem dX1_write_96 : decode cX1_write 96 = .ok (.iaload, 1) := by decide +kernel
theorem dX1_write_97 : decode cX1_write 97 = .ok (.iload 4, 2) := by decide +kernel
theorem dX1_write_99 : decode cX1_write 99 = .ok (.if_icmp .le 12, 3) := by decide +kernel
theorem dX1_write_102 : decode cX1_write 102 = .ok (.aload_n 0, 1) := by decide +kernel
theorem dX1_write_103 : decode cX1_write 103 = .ok (.getfield 16, 3) := by decide +kernel
theorem dX1_write_106 : decode cX1_write 106 = .ok (.iload 5, 2) := by decide +kernel
theorem dX1_write_108 : decode cX1_write 108 = .ok (.iaload, 1) := by decide +kernel
theorem dX1_write_109 : decode cX1_write 109 = .ok (.istore 4, 2) := by decide +kernel
theorem dX1_write_111 : decode cX1_write 111 = .ok (.iinc 5 1, 3) := by decide +kernel
theorem dX1_write_114 : decode cX1_write 114 = .ok (.goto (-75), 3) := by decide +kernel
theorem dX1_write_117 : decode cX1_write 117 = .ok (.aload_n 0, 1) := by decide +kernel
theorem dX1_write_118 : decode cX1_write 118 = .ok (.getfield 7, 3) := by decide +kernel
theorem dX1_write_121 : decode cX1_write 121 = .ok (.aload_n 0, 1) := by decide +kernel
theorem dX1_write_122 : decode cX1_write 122 = .ok (.getfield 35, 3) := by decide +kernel
theorem dX1_write_125 : decode cX1_write 125 = .ok (.iload_n 2, 1) := by decide +kernel
theorem dX1_write_126 : decode cX1_write 126 = .ok (.iastore, 1) := by decide +kernel
theorem dX1_write_127 : decode cX1_write 127 = .ok (.aload_n 0, 1) := by decide +kernel
theorem dX1_write_128 : decode cX1_write 128 = .ok (.getfield 13, 3) := by decide +kernel
theorem dX1_write_131 : decode cX1_write 131 = .ok (.aload_n 0, 1) := by decide +kernel
theorem dX1_write_132 : decode cX1_write 132 = .ok (.getfield 35, 3) := by decide +kernel
theorem dX1_write_135 : decode cX1_write 135 = .ok (.iload_n 3, 1) := by decide +kernel
theorem dX1_write_136 : decode cX1_write 136 = .ok (.iastore, 1) := by decide +kernel
theorem dX1_write_137 : decode cX1_write 137 = .ok (.aload_n 0, 1) := by decide +kernel
theorem dX1_write_138 : decode cX1_write 138 = .ok (.getfield 16, 3) := by decide +kernel
theorem dX1_write_141 : decode cX1_write 141 = .ok (.aload_n 0, 1) := by decide +kernel
theorem dX1_write_142 : decode cX1_write 142 = .ok (.getfield 35, 3) := by decide +kernel
theorem dX1_write_145 : decode cX1_write 145 = .ok (.iload 4, 2) := by decide +kernel
theorem dX1_write_147 : decode cX1_write 147 = .ok (.iconst 1, 1) := by decide +kernel
theorem dX1_write_148 : decode cX1_write 148 = .ok (.iadd, 1) := by decide +kernel
theorem dX1_write_149 : decode cX1_write 149 = .ok (.iastore, 1) := by decide +kernel
theorem dX1_write_150 : decode cX1_write 150 = .ok (.aload_n 0, 1) := by decide +kernel
theorem dX1_write_151 : decode cX1_write 151 = .ok (.getfield 23, 3) := by decide +kernel
theorem dX1_write_154 : decode cX1_write 154 = .ok (.aload_n 0, 1) := by decide +kernel
theorem dX1_write_155 : decode cX1_write 155 = .ok (.getfield 29, 3) := by decide +kernel
theorem dX1_write_158 : decode cX1_write 158 = .ok (.iload_n 1, 1) := by decide +kernel
theorem dX1_write_159 : decode cX1_write 159 = .ok (.iaload, 1) := by decide +kernel
theorem dX1_write_160 : decode cX1_write 160 = .ok (.bipush 40, 2) := by decide +kernel
theorem dX1_write_162 : decode cX1_write 162 = .ok (.imul, 1) := by decide +kernel
theorem dX1_write_163 : decode cX1_write 163 = .ok (.aload_n 0, 1) := by decide +kernel
theorem dX1_write_164 : decode cX1_write 164 = .ok (.getfield 35, 3) := by decide +kernel
theorem dX1_write_167 : decode cX1_write 167 = .ok (.iadd, 1) := by decide +kernel
theorem dX1_write_168 : decode cX1_write 168 = .ok (.iconst 1, 1) := by decide +kernel
theorem dX1_write_169 : decode cX1_write 169 = .ok (.bastore, 1) := by decide +kernel
theorem dX1_write_170 : decode cX1_write 170 = .ok (.aload_n 0, 1) := by decide +kernel
theorem dX1_write_171 : decode cX1_write 171 = .ok (.getfield 26, 3) := by decide +kernel
theorem dX1_write_174 : decode cX1_write 174 = .ok (.iload_n 1, 1) := by decide +kernel
theorem dX1_write_175 : decode cX1_write 175 = .ok (.bipush 40, 2) := by decide +kernel
theorem dX1_write_177 : decode cX1_write 177 = .ok (.imul, 1) := by decide +kernel
theorem dX1_write_178 : decode cX1_write 178 = .ok (.aload_n 0, 1) := by decide +kernel
theorem dX1_write_179 : decode cX1_write 179 = .ok (.getfield 35, 3) := by decide +kernel
theorem dX1_write_182 : decode cX1_write 182 = .ok (.iadd, 1) := by decide +kernel
theorem dX1_write_183 : decode cX1_write 183 = .ok (.iconst 1, 1) := by decide +kernel
theorem dX1_write_184 : decode cX1_write 184 = .ok (.bastore, 1) := by decide +kernel
theorem dX1_write_185 : decode cX1_write 185 = .ok (.aload_n 0, 1) := by decide +kernel
theorem dX1_write_186 : decode cX1_write 186 = .ok (.dup, 1) := by decide +kernel
theorem dX1_write_187 : decode cX1_write 187 = .ok (.getfield 35, 3) := by decide +kernel
theorem dX1_write_190 : decode cX1_write 190 = .ok (.iconst 1, 1) := by decide +kernel
theorem dX1_write_191 : decode cX1_write 191 = .ok (.iadd, 1) := by decide +kernel
theorem dX1_write_192 : decode cX1_write 192 = .ok (.putfield 35, 3) := by decide +kernel
theorem dX1_write_195 : decode cX1_write 195 = .ok (.aload_n 0, 1) := by decide +kernel
theorem dX1_write_196 : decode cX1_write 196 = .ok (.getfield 35, 3) := by decide +kernel
theorem dX1_write_199 : decode cX1_write 199 = .ok (.iconst 1, 1) := by decide +kernel
theorem dX1_write_200 : decode cX1_write 200 = .ok (.isub, 1) := by decide +kernel
theorem dX1_write_201 : decode cX1_write 201 = .ok (.ireturn, 1) := by decide +kernel
theorem dX1_three_0 : decode cX1_three 0 = .ok (.iload_n 1, 1) := by decide +kernel
theorem dX1_three_1 : decode cX1_three 1 = .ok (.ifCond .lt 12, 3) := by decide +kernel
theorem dX1_three_4 : decode cX1_three 4 = .ok (.iload_n 1, 1) := by decide +kernel
theorem dX1_three_5 : decode cX1_three 5 = .ok (.iconst 3, 1) := by decide +kernel
theorem dX1_three_6 : decode cX1_three 6 = .ok (.if_icmp .ge 7, 3) := by decide +kernel
theorem dX1_three_9 : decode cX1_three 9 = .ok (.iconst 1, 1) := by decide +kernel
theorem dX1_three_10 : decode cX1_three 10 = .ok (.goto 4, 3) := by decide +kernel
theorem dX1_three_13 : decode cX1_three 13 = .ok (.iconst 0, 1) := by decide +kernel
theorem dX1_three_14 : decode cX1_three 14 = .ok (.ireturn, 1) := by decide +kernel
theorem dX1_isKey_0 : decode cX1_isKey 0 = .ok (.iload_n 1, 1) := by decide +kernel
theorem dX1_isKey_1 : decode cX1_isKey 1 = .ok (.ifCond .lt 13, 3) := by decide +kernel
theorem dX1_isKey_4 : decode cX1_isKey 4 = .ok (.iload_n 1, 1) := by decide +kernel
theorem dX1_isKey_5 : decode cX1_isKey 5 = .ok (.bipush 6, 2) := by decide +kernel
theorem dX1_isKey_7 : decode cX1_isKey 7 = .ok (.if_icmp .ge 7, 3) := by decide +kernel
theorem dX1_isKey_10 : decode cX1_isKey 10 = .ok (.iconst 1, 1) := by decide +kernel
theorem dX1_isKey_11 : decode cX1_isKey 11 = .ok (.goto 4, 3) := by decide +kernel
theorem dX1_isKey_14 : decode cX1_isKey 14 = .ok (.iconst 0, 1) := by decide +kernel
theorem dX1_isKey_15 : decode cX1_isKey 15 = .ok (.ireturn, 1) := by decide +kernel
theorem dX1_read_0 : decode cX1_read 0 = .ok (.aload_n 0, 1) := by decide +kernel
theorem dX1_read_1 : decode cX1_read 1 = .ok (.iload_n 1, 1) := by decide +kernel
theorem dX1_read_2 : decode cX1_read 2 = .ok (.invokevirtual 43, 3) := by decide +kernel
theorem dX1_read_5 : decode cX1_read 5 = .ok (.ifCond .ne 5, 3) := by decide +kernel
theorem dX1_read_8 : decode cX1_read 8 = .ok (.iconst (-1), 1) := by decide +kernel
theorem dX1_read_9 : decode cX1_read 9 = .ok (.ireturn, 1) := by decide +kernel
theorem dX1_read_10 : decode cX1_read 10 = .ok (.aload_n 0, 1) := by decide +kernel
theorem dX1_read_11 : decode cX1_read 11 = .ok (.iload_n 2, 1) := by decide +kernel
theorem dX1_read_12 : decode cX1_read 12 = .ok (.invokevirtual 46, 3) := by decide +kernel
theorem dX1_read_15 : decode cX1_read 15 = .ok (.ifCond .ne 6, 3) := by decide +kernel
theorem dX1_read_18 : decode cX1_read 18 = .ok (.bipush (-2), 2) := by decide +kernel
theorem dX1_read_20 : decode cX1_read 20 = .ok (.ireturn, 1) := by decide +kernel
theorem dX1_read_21 : decode cX1_read 21 = .ok (.aload_n 0, 1) := by decide +kernel
theorem dX1_read_22 : decode cX1_read 22 = .ok (.aload_n 0, 1) := by decide +kernel
theorem dX1_read_23 : decode cX1_read 23 = .ok (.getfield 29, 3) := by decide +kernel
theorem dX1_read_26 : decode cX1_read 26 = .ok (.iload_n 1, 1) := by decide +kernel
theorem dX1_read_27 : decode cX1_read 27 = .ok (.iaload, 1) := by decide +kernel
theorem dX1_read_28 : decode cX1_read 28 = .ok (.iload_n 2, 1) := by decide +kernel
theorem dX1_read_29 : decode cX1_read 29 = .ok (.invokevirtual 49, 3) := by decide +kernel
theorem dX1_read_32 : decode cX1_read 32 = .ok (.istore_n 3, 1) := by decide +kernel
theorem dX1_read_33 : decode cX1_read 33 = .ok (.iload_n 3, 1) := by decide +kernel
theorem dX1_read_34 : decode cX1_read 34 = .ok (.ifCond .lt 15, 3) := by decide +kernel
theorem dX1_read_37 : decode cX1_read 37 = .ok (.aload_n 0, 1) := by decide +kernel
theorem dX1_read_38 : decode cX1_read 38 = .ok (.getfield 26, 3) := by decide +kernel
theorem dX1_read_41 : decode cX1_read 41 = .ok (.iload_n 1, 1) := by decide +kernel
theorem dX1_read_42 : decode cX1_read 42 = .ok (.bipush 40, 2) := by decide +kernel
theorem dX1_read_44 : decode cX1_read 44 = .ok (.imul, 1) := by decide +kernel
theorem dX1_read_45 : decode cX1_read 45 = .ok (.iload_n 3, 1) := by decide +kernel
theorem dX1_read_46 : decode cX1_read 46 = .ok (.iadd, 1) := by decide +kernel
theorem dX1_read_47 : decode cX1_read 47 = .ok (.iconst 1, 1) := by decide +kernel
theorem dX1_read_48 : decode cX1_read 48 = .ok (.bastore, 1) := by decide +kernel
theorem dX1_read_49 : decode cX1_read 49 = .ok (.iload_n 3, 1) := by decide +kernel
theorem dX1_read_50 : decode cX1_read 50 = .ok (.ireturn, 1) := by decide +kernel
theorem dX1_winner_0 : decode cX1_winner 0 = .ok (.aload_n 0, 1) := by decide +kernel
theorem dX1_winner_1 : decode cX1_winner 1 = .ok (.iload_n 1, 1) := by decide +kernel
theorem dX1_winner_2 : decode cX1_winner 2 = .ok (.invokevirtual 43, 3) := by decide +kernel
theorem dX1_winner_5 : decode cX1_winner 5 = .ok (.ifCond .ne 6, 3) := by decide +kernel
theorem dX1_winner_8 : decode cX1_winner 8 = .ok (.bipush (-4), 2) := by decide +kernel
theorem dX1_winner_10 : decode cX1_winner 10 = .ok (.ireturn, 1) := by decide +kernel
theorem dX1_winner_11 : decode cX1_winner 11 = .ok (.aload_n 0, 1) := by decide +kernel
theorem dX1_winner_12 : decode cX1_winner 12 = .ok (.iload_n 2, 1) := by decide +kernel
theorem dX1_winner_13 : decode cX1_winner 13 = .ok (.invokevirtual 46, 3) := by decide +kernel
theorem dX1_winner_16 : decode cX1_winner 16 = .ok (.ifCond .ne 6, 3) := by decide +kernel
theorem dX1_winner_19 : decode cX1_winner 19 = .ok (.bipush (-2), 2) := by decide +kernel
theorem dX1_winner_21 : decode cX1_winner 21 = .ok (.ireturn, 1) := by decide +kernel
theorem dX1_winner_22 : decode cX1_winner 22 = .ok (.aload_n 0, 1) := by decide +kernel
theorem dX1_winner_23 : decode cX1_winner 23 = .ok (.iload_n 1, 1) := by decide +kernel
theorem dX1_winner_24 : decode cX1_winner 24 = .ok (.invokevirtual 53, 3) := by decide +kernel
theorem dX1_winner_27 : decode cX1_winner 27 = .ok (.pop, 1) := by decide +kernel
theorem dX1_winner_28 : decode cX1_winner 28 = .ok (.bipush (-5), 2) := by decide +kernel
theorem dX1_winner_30 : decode cX1_winner 30 = .ok (.istore_n 3, 1) := by decide +kernel
theorem dX1_winner_31 : decode cX1_winner 31 = .ok (.iconst 0, 1) := by decide +kernel
theorem dX1_winner_32 : decode cX1_winner 32 = .ok (.istore 4, 2) := by decide +kernel
theorem dX1_winner_34 : decode cX1_winner 34 = .ok (.iload 4, 2) := by decide +kernel
theorem dX1_winner_36 : decode cX1_winner 36 = .ok (.aload_n 0, 1) := by decide +kernel
theorem dX1_winner_37 : decode cX1_winner 37 = .ok (.getfield 35, 3) := by decide +kernel
theorem dX1_winner_40 : decode cX1_winner 40 = .ok (.if_icmp .ge 53, 3) := by decide +kernel
theorem dX1_winner_43 : decode cX1_winner 43 = .ok (.aload_n 0, 1) := by decide +kernel
theorem dX1_winner_44 : decode cX1_winner 44 = .ok (.getfield 32, 3) := by decide +kernel
theorem dX1_winner_47 : decode cX1_winner 47 = .ok (.iload 4, 2) := by decide +kernel
theorem dX1_winner_49 : decode cX1_winner 49 = .ok (.baload, 1) := by decide +kernel
theorem dX1_winner_50 : decode cX1_winner 50 = .ok (.ifCond .eq 37, 3) := by decide +kernel
theorem dX1_winner_53 : decode cX1_winner 53 = .ok (.aload_n 0, 1) := by decide +kernel
theorem dX1_winner_54 : decode cX1_winner 54 = .ok (.getfield 7, 3) := by decide +kernel
theorem dX1_winner_57 : decode cX1_winner 57 = .ok (.iload 4, 2) := by decide +kernel
theorem dX1_winner_59 : decode cX1_winner 59 = .ok (.iaload, 1) := by decide +kernel
theorem dX1_winner_60 : decode cX1_winner 60 = .ok (.iload_n 2, 1) := by decide +kernel
theorem dX1_winner_61 : decode cX1_winner 61 = .ok (.if_icmp .ne 26, 3) := by decide +kernel
theorem dX1_winner_64 : decode cX1_winner 64 = .ok (.iload_n 3, 1) := by decide +kernel
theorem dX1_winner_65 : decode cX1_winner 65 = .ok (.ifCond .lt 19, 3) := by decide +kernel
theorem dX1_winner_68 : decode cX1_winner 68 = .ok (.aload_n 0, 1) := by decide +kernel
theorem dX1_winner_69 : decode cX1_winner 69 = .ok (.getfield 16, 3) := by decide +kernel
theorem dX1_winner_72 : decode cX1_winner 72 = .ok (.iload 4, 2) := by decide +kernel
theorem dX1_winner_74 : decode cX1_winner 74 = .ok (.iaload, 1) := by decide +kernel
theorem dX1_winner_75 : decode cX1_winner 75 = .ok (.aload_n 0, 1) := by decide +kernel
theorem dX1_winner_76 : decode cX1_winner 76 = .ok (.getfield 16, 3) := by decide +kernel
theorem dX1_winner_79 : decode cX1_winner 79 = .ok (.iload_n 3, 1) := by decide +kernel
theorem dX1_winner_80 : decode cX1_winner 80 = .ok (.iaload, 1) := by decide +kernel
theorem dX1_winner_81 : decode cX1_winner 81 = .ok (.if_icmp .lt 6, 3) := by decide +kernel
theorem dX1_winner_84 : decode cX1_winner 84 = .ok (.iload 4, 2) := by decide +kernel
theorem dX1_winner_86 : decode cX1_winner 86 = .ok (.istore_n 3, 1) := by decide +kernel
theorem dX1_winner_87 : decode cX1_winner 87 = .ok (.iinc 4 1, 3) := by decide +kernel
theorem dX1_winner_90 : decode cX1_winner 90 = .ok (.goto (-56), 3) := by decide +kernel
theorem dX1_winner_93 : decode cX1_winner 93 = .ok (.iload_n 3, 1) := by decide +kernel
theorem dX1_winner_94 : decode cX1_winner 94 = .ok (.ireturn, 1) := by decide +kernel
theorem dX1_sweep_0 : decode cX1_sweep 0 = .ok (.iconst 0, 1) := by decide +kernel
theorem dX1_sweep_1 : decode cX1_sweep 1 = .ok (.istore_n 2, 1) := by decide +kernel
theorem dX1_sweep_2 : decode cX1_sweep 2 = .ok (.iconst 0, 1) := by decide +kernel
theorem dX1_sweep_3 : decode cX1_sweep 3 = .ok (.istore_n 3, 1) := by decide +kernel
theorem dX1_sweep_4 : decode cX1_sweep 4 = .ok (.iload_n 3, 1) := by decide +kernel
theorem dX1_sweep_5 : decode cX1_sweep 5 = .ok (.bipush 40, 2) := by decide +kernel
theorem dX1_sweep_7 : decode cX1_sweep 7 = .ok (.if_icmp .ge 16, 3) := by decide +kernel
theorem dX1_sweep_10 : decode cX1_sweep 10 = .ok (.aload_n 0, 1) := by decide +kernel
theorem dX1_sweep_11 : decode cX1_sweep 11 = .ok (.getfield 32, 3) := by decide +kernel
theorem dX1_sweep_14 : decode cX1_sweep 14 = .ok (.iload_n 3, 1) := by decide +kernel
theorem dX1_sweep_15 : decode cX1_sweep 15 = .ok (.iconst 0, 1) := by decide +kernel
theorem dX1_sweep_16 : decode cX1_sweep 16 = .ok (.bastore, 1) := by decide +kernel
theorem dX1_sweep_17 : decode cX1_sweep 17 = .ok (.iinc 3 1, 3) := by decide +kernel
theorem dX1_sweep_20 : decode cX1_sweep 20 = .ok (.goto (-16), 3) := by decide +kernel
theorem dX1_sweep_23 : decode cX1_sweep 23 = .ok (.iconst 1, 1) := by decide +kernel
theorem dX1_sweep_24 : decode cX1_sweep 24 = .ok (.istore_n 3, 1) := by decide +kernel
theorem dX1_sweep_25 : decode cX1_sweep 25 = .ok (.iconst 0, 1) := by decide +kernel
theorem dX1_sweep_26 : decode cX1_sweep 26 = .ok (.istore 4, 2) := by decide +kernel
theorem dX1_sweep_28 : decode cX1_sweep 28 = .ok (.iload 4, 2) := by decide +kernel
theorem dX1_sweep_30 : decode cX1_sweep 30 = .ok (.bipush 41, 2) := by decide +kernel
theorem dX1_sweep_32 : decode cX1_sweep 32 = .ok (.if_icmp .ge 80, 3) := by decide +kernel
theorem dX1_sweep_35 : decode cX1_sweep 35 = .ok (.iload_n 3, 1) := by decide +kernel
theorem dX1_sweep_36 : decode cX1_sweep 36 = .ok (.ifCond .eq 76, 3) := by decide +kernel
theorem dX1_sweep_39 : decode cX1_sweep 39 = .ok (.iconst 0, 1) := by decide +kernel
theorem dX1_sweep_40 : decode cX1_sweep 40 = .ok (.istore_n 3, 1) := by decide +kernel
theorem dX1_sweep_41 : decode cX1_sweep 41 = .ok (.iconst 0, 1) := by decide +kernel
theorem dX1_sweep_42 : decode cX1_sweep 42 = .ok (.istore 5, 2) := by decide +kernel
theorem dX1_sweep_44 : decode cX1_sweep 44 = .ok (.iload 5, 2) := by decide +kernel
theorem dX1_sweep_46 : decode cX1_sweep 46 = .ok (.aload_n 0, 1) := by decide +kernel
theorem dX1_sweep_47 : decode cX1_sweep 47 = .ok (.getfield 35, 3) := by decide +kernel
theorem dX1_sweep_50 : decode cX1_sweep 50 = .ok (.if_icmp .ge 56, 3) := by decide +kernel
theorem dX1_sweep_53 : decode cX1_sweep 53 = .ok (.aload_n 0, 1) := by decide +kernel
theorem dX1_sweep_54 : decode cX1_sweep 54 = .ok (.getfield 32, 3) := by decide +kernel
theorem dX1_sweep_57 : decode cX1_sweep 57 = .ok (.iload 5, 2) := by decide +kernel
theorem dX1_sweep_59 : decode cX1_sweep 59 = .ok (.baload, 1) := by decide +kernel
theorem dX1_sweep_60 : decode cX1_sweep 60 = .ok (.ifCond .ne 40, 3) := by decide +kernel
theorem dX1_sweep_63 : decode cX1_sweep 63 = .ok (.aload_n 0, 1) := by decide +kernel
theorem dX1_sweep_64 : decode cX1_sweep 64 = .ok (.getfield 23, 3) := by decide +kernel
theorem dX1_sweep_67 : decode cX1_sweep 67 = .ok (.iload_n 1, 1) := by decide +kernel
theorem dX1_sweep_68 : decode cX1_sweep 68 = .ok (.bipush 40, 2) := by decide +kernel
theorem dX1_sweep_70 : decode cX1_sweep 70 = .ok (.imul, 1) := by decide +kernel
theorem dX1_sweep_71 : decode cX1_sweep 71 = .ok (.iload 5, 2) := by decide +kernel
theorem dX1_sweep_73 : decode cX1_sweep 73 = .ok (.iadd, 1) := by decide +kernel
theorem dX1_sweep_74 : decode cX1_sweep 74 = .ok (.baload, 1) := by decide +kernel
theorem dX1_sweep_75 : decode cX1_sweep 75 = .ok (.ifCond .eq 25, 3) := by decide +kernel
theorem dX1_sweep_78 : decode cX1_sweep 78 = .ok (.aload_n 0, 1) := by decide +kernel
theorem dX1_sweep_79 : decode cX1_sweep 79 = .ok (.iload 5, 2) := by decide +kernel
theorem dX1_sweep_81 : decode cX1_sweep 81 = .ok (.invokevirtual 39, 3) := by decide +kernel
theorem dX1_sweep_84 : decode cX1_sweep 84 = .ok (.ifCond .eq 16, 3) := by decide +kernel
theorem dX1_sweep_87 : decode cX1_sweep 87 = .ok (.aload_n 0, 1) := by decide +kernel
theorem dX1_sweep_88 : decode cX1_sweep 88 = .ok (.getfield 32, 3) := by decide +kernel
theorem dX1_sweep_91 : decode cX1_sweep 91 = .ok (.iload 5, 2) := by decide +kernel
theorem dX1_sweep_93 : decode cX1_sweep 93 = .ok (.iconst 1, 1) := by decide +kernel
theorem dX1_sweep_94 : decode cX1_sweep 94 = .ok (.bastore, 1) := by decide +kernel
theorem dX1_sweep_95 : decode cX1_sweep 95 = .ok (.iconst 1, 1) := by decide +kernel
theorem dX1_sweep_96 : decode cX1_sweep 96 = .ok (.istore_n 3, 1) := by decide +kernel
end
section
set_option maxRecDepth 100000
theorem dX1_sweep_97 : decode cX1_sweep 97 = .ok (.iinc 2 1, 3) := by decide +kernel
theorem dX1_sweep_100 : decode cX1_sweep 100 = .ok (.iinc 5 1, 3) := by decide +kernel
theorem dX1_sweep_103 : decode cX1_sweep 103 = .ok (.goto (-59), 3) := by decide +kernel
theorem dX1_sweep_106 : decode cX1_sweep 106 = .ok (.iinc 4 1, 3) := by decide +kernel
theorem dX1_sweep_109 : decode cX1_sweep 109 = .ok (.goto (-81), 3) := by decide +kernel
theorem dX1_sweep_112 : decode cX1_sweep 112 = .ok (.iload_n 2, 1) := by decide +kernel
theorem dX1_sweep_113 : decode cX1_sweep 113 = .ok (.ireturn, 1) := by decide +kernel
theorem dX1_allNeeded_0 : decode cX1_allNeeded 0 = .ok (.iconst 0, 1) := by decide +kernel
theorem dX1_allNeeded_1 : decode cX1_allNeeded 1 = .ok (.istore_n 2, 1) := by decide +kernel
theorem dX1_allNeeded_2 : decode cX1_allNeeded 2 = .ok (.iload_n 2, 1) := by decide +kernel
theorem dX1_allNeeded_3 : decode cX1_allNeeded 3 = .ok (.aload_n 0, 1) := by decide +kernel
theorem dX1_allNeeded_4 : decode cX1_allNeeded 4 = .ok (.getfield 35, 3) := by decide +kernel
theorem dX1_allNeeded_7 : decode cX1_allNeeded 7 = .ok (.if_icmp .ge 34, 3) := by decide +kernel
theorem dX1_allNeeded_10 : decode cX1_allNeeded 10 = .ok (.aload_n 0, 1) := by decide +kernel
theorem dX1_allNeeded_11 : decode cX1_allNeeded 11 = .ok (.getfield 19, 3) := by decide +kernel
theorem dX1_allNeeded_14 : decode cX1_allNeeded 14 = .ok (.iload_n 1, 1) := by decide +kernel
theorem dX1_allNeeded_15 : decode cX1_allNeeded 15 = .ok (.bipush 40, 2) := by decide +kernel
theorem dX1_allNeeded_17 : decode cX1_allNeeded 17 = .ok (.imul, 1) := by decide +kernel
theorem dX1_allNeeded_18 : decode cX1_allNeeded 18 = .ok (.iload_n 2, 1) := by decide +kernel
theorem dX1_allNeeded_19 : decode cX1_allNeeded 19 = .ok (.iadd, 1) := by decide +kernel
theorem dX1_allNeeded_20 : decode cX1_allNeeded 20 = .ok (.baload, 1) := by decide +kernel
theorem dX1_allNeeded_21 : decode cX1_allNeeded 21 = .ok (.ifCond .eq 14, 3) := by decide +kernel
theorem dX1_allNeeded_24 : decode cX1_allNeeded 24 = .ok (.aload_n 0, 1) := by decide +kernel
theorem dX1_allNeeded_25 : decode cX1_allNeeded 25 = .ok (.getfield 32, 3) := by decide +kernel
theorem dX1_allNeeded_28 : decode cX1_allNeeded 28 = .ok (.iload_n 2, 1) := by decide +kernel
theorem dX1_allNeeded_29 : decode cX1_allNeeded 29 = .ok (.baload, 1) := by decide +kernel
theorem dX1_allNeeded_30 : decode cX1_allNeeded 30 = .ok (.ifCond .ne 5, 3) := by decide +kernel
theorem dX1_allNeeded_33 : decode cX1_allNeeded 33 = .ok (.iconst 0, 1) := by decide +kernel
theorem dX1_allNeeded_34 : decode cX1_allNeeded 34 = .ok (.ireturn, 1) := by decide +kernel
theorem dX1_allNeeded_35 : decode cX1_allNeeded 35 = .ok (.iinc 2 1, 3) := by decide +kernel
theorem dX1_allNeeded_38 : decode cX1_allNeeded 38 = .ok (.goto (-36), 3) := by decide +kernel
theorem dX1_allNeeded_41 : decode cX1_allNeeded 41 = .ok (.iconst 1, 1) := by decide +kernel
theorem dX1_allNeeded_42 : decode cX1_allNeeded 42 = .ok (.ireturn, 1) := by decide +kernel
theorem dX1_move_0 : decode cX1_move 0 = .ok (.aload_n 0, 1) := by decide +kernel
theorem dX1_move_1 : decode cX1_move 1 = .ok (.iload_n 1, 1) := by decide +kernel
theorem dX1_move_2 : decode cX1_move 2 = .ok (.invokevirtual 43, 3) := by decide +kernel
theorem dX1_move_5 : decode cX1_move 5 = .ok (.ifCond .ne 5, 3) := by decide +kernel
theorem dX1_move_8 : decode cX1_move 8 = .ok (.iconst (-1), 1) := by decide +kernel
theorem dX1_move_9 : decode cX1_move 9 = .ok (.ireturn, 1) := by decide +kernel
theorem dX1_move_10 : decode cX1_move 10 = .ok (.aload_n 0, 1) := by decide +kernel
theorem dX1_move_11 : decode cX1_move 11 = .ok (.iload_n 2, 1) := by decide +kernel
theorem dX1_move_12 : decode cX1_move 12 = .ok (.invokevirtual 43, 3) := by decide +kernel
theorem dX1_move_15 : decode cX1_move 15 = .ok (.ifCond .ne 6, 3) := by decide +kernel
theorem dX1_move_18 : decode cX1_move 18 = .ok (.bipush (-4), 2) := by decide +kernel
theorem dX1_move_20 : decode cX1_move 20 = .ok (.ireturn, 1) := by decide +kernel
theorem dX1_move_21 : decode cX1_move 21 = .ok (.aload_n 0, 1) := by decide +kernel
theorem dX1_move_22 : decode cX1_move 22 = .ok (.iload_n 2, 1) := by decide +kernel
theorem dX1_move_23 : decode cX1_move 23 = .ok (.invokevirtual 53, 3) := by decide +kernel
theorem dX1_move_26 : decode cX1_move 26 = .ok (.pop, 1) := by decide +kernel
theorem dX1_move_27 : decode cX1_move 27 = .ok (.iconst 0, 1) := by decide +kernel
theorem dX1_move_28 : decode cX1_move 28 = .ok (.istore_n 3, 1) := by decide +kernel
theorem dX1_move_29 : decode cX1_move 29 = .ok (.iload_n 3, 1) := by decide +kernel
theorem dX1_move_30 : decode cX1_move 30 = .ok (.aload_n 0, 1) := by decide +kernel
theorem dX1_move_31 : decode cX1_move 31 = .ok (.getfield 35, 3) := by decide +kernel
theorem dX1_move_34 : decode cX1_move 34 = .ok (.if_icmp .ge 35, 3) := by decide +kernel
theorem dX1_move_37 : decode cX1_move 37 = .ok (.aload_n 0, 1) := by decide +kernel
theorem dX1_move_38 : decode cX1_move 38 = .ok (.getfield 26, 3) := by decide +kernel
theorem dX1_move_41 : decode cX1_move 41 = .ok (.iload_n 1, 1) := by decide +kernel
theorem dX1_move_42 : decode cX1_move 42 = .ok (.bipush 40, 2) := by decide +kernel
theorem dX1_move_44 : decode cX1_move 44 = .ok (.imul, 1) := by decide +kernel
theorem dX1_move_45 : decode cX1_move 45 = .ok (.iload_n 3, 1) := by decide +kernel
theorem dX1_move_46 : decode cX1_move 46 = .ok (.iadd, 1) := by decide +kernel
theorem dX1_move_47 : decode cX1_move 47 = .ok (.baload, 1) := by decide +kernel
theorem dX1_move_48 : decode cX1_move 48 = .ok (.ifCond .eq 15, 3) := by decide +kernel
theorem dX1_move_51 : decode cX1_move 51 = .ok (.aload_n 0, 1) := by decide +kernel
theorem dX1_move_52 : decode cX1_move 52 = .ok (.getfield 32, 3) := by decide +kernel
theorem dX1_move_55 : decode cX1_move 55 = .ok (.iload_n 3, 1) := by decide +kernel
theorem dX1_move_56 : decode cX1_move 56 = .ok (.baload, 1) := by decide +kernel
theorem dX1_move_57 : decode cX1_move 57 = .ok (.ifCond .ne 6, 3) := by decide +kernel
theorem dX1_move_60 : decode cX1_move 60 = .ok (.bipush (-7), 2) := by decide +kernel
theorem dX1_move_62 : decode cX1_move 62 = .ok (.ireturn, 1) := by decide +kernel
theorem dX1_move_63 : decode cX1_move 63 = .ok (.iinc 3 1, 3) := by decide +kernel
theorem dX1_move_66 : decode cX1_move 66 = .ok (.goto (-37), 3) := by decide +kernel
theorem dX1_move_69 : decode cX1_move 69 = .ok (.aload_n 0, 1) := by decide +kernel
theorem dX1_move_70 : decode cX1_move 70 = .ok (.getfield 29, 3) := by decide +kernel
theorem dX1_move_73 : decode cX1_move 73 = .ok (.iload_n 1, 1) := by decide +kernel
theorem dX1_move_74 : decode cX1_move 74 = .ok (.iload_n 2, 1) := by decide +kernel
theorem dX1_move_75 : decode cX1_move 75 = .ok (.iastore, 1) := by decide +kernel
theorem dX1_move_76 : decode cX1_move 76 = .ok (.iconst 0, 1) := by decide +kernel
theorem dX1_move_77 : decode cX1_move 77 = .ok (.ireturn, 1) := by decide +kernel
theorem dX1_deliver_0 : decode cX1_deliver 0 = .ok (.aload_n 0, 1) := by decide +kernel
theorem dX1_deliver_1 : decode cX1_deliver 1 = .ok (.iload_n 1, 1) := by decide +kernel
theorem dX1_deliver_2 : decode cX1_deliver 2 = .ok (.invokevirtual 57, 3) := by decide +kernel
theorem dX1_deliver_5 : decode cX1_deliver 5 = .ok (.ifCond .ne 6, 3) := by decide +kernel
theorem dX1_deliver_8 : decode cX1_deliver 8 = .ok (.bipush (-5), 2) := by decide +kernel
theorem dX1_deliver_10 : decode cX1_deliver 10 = .ok (.ireturn, 1) := by decide +kernel
theorem dX1_deliver_11 : decode cX1_deliver 11 = .ok (.aload_n 0, 1) := by decide +kernel
theorem dX1_deliver_12 : decode cX1_deliver 12 = .ok (.iload_n 2, 1) := by decide +kernel
theorem dX1_deliver_13 : decode cX1_deliver 13 = .ok (.invokevirtual 43, 3) := by decide +kernel
theorem dX1_deliver_16 : decode cX1_deliver 16 = .ok (.ifCond .ne 6, 3) := by decide +kernel
theorem dX1_deliver_19 : decode cX1_deliver 19 = .ok (.bipush (-4), 2) := by decide +kernel
theorem dX1_deliver_21 : decode cX1_deliver 21 = .ok (.ireturn, 1) := by decide +kernel
theorem dX1_deliver_22 : decode cX1_deliver 22 = .ok (.aload_n 0, 1) := by decide +kernel
theorem dX1_deliver_23 : decode cX1_deliver 23 = .ok (.getfield 23, 3) := by decide +kernel
theorem dX1_deliver_26 : decode cX1_deliver 26 = .ok (.iload_n 2, 1) := by decide +kernel
theorem dX1_deliver_27 : decode cX1_deliver 27 = .ok (.bipush 40, 2) := by decide +kernel
theorem dX1_deliver_29 : decode cX1_deliver 29 = .ok (.imul, 1) := by decide +kernel
theorem dX1_deliver_30 : decode cX1_deliver 30 = .ok (.iload_n 1, 1) := by decide +kernel
theorem dX1_deliver_31 : decode cX1_deliver 31 = .ok (.iadd, 1) := by decide +kernel
theorem dX1_deliver_32 : decode cX1_deliver 32 = .ok (.baload, 1) := by decide +kernel
theorem dX1_deliver_33 : decode cX1_deliver 33 = .ok (.ifCond .eq 6, 3) := by decide +kernel
theorem dX1_deliver_36 : decode cX1_deliver 36 = .ok (.bipush (-6), 2) := by decide +kernel
theorem dX1_deliver_38 : decode cX1_deliver 38 = .ok (.ireturn, 1) := by decide +kernel
theorem dX1_deliver_39 : decode cX1_deliver 39 = .ok (.aload_n 0, 1) := by decide +kernel
theorem dX1_deliver_40 : decode cX1_deliver 40 = .ok (.iload_n 2, 1) := by decide +kernel
theorem dX1_deliver_41 : decode cX1_deliver 41 = .ok (.invokevirtual 53, 3) := by decide +kernel
theorem dX1_deliver_44 : decode cX1_deliver 44 = .ok (.istore_n 3, 1) := by decide +kernel
theorem dX1_deliver_45 : decode cX1_deliver 45 = .ok (.aload_n 0, 1) := by decide +kernel
theorem dX1_deliver_46 : decode cX1_deliver 46 = .ok (.getfield 23, 3) := by decide +kernel
theorem dX1_deliver_49 : decode cX1_deliver 49 = .ok (.iload_n 2, 1) := by decide +kernel
theorem dX1_deliver_50 : decode cX1_deliver 50 = .ok (.bipush 40, 2) := by decide +kernel
theorem dX1_deliver_52 : decode cX1_deliver 52 = .ok (.imul, 1) := by decide +kernel
theorem dX1_deliver_53 : decode cX1_deliver 53 = .ok (.iload_n 1, 1) := by decide +kernel
theorem dX1_deliver_54 : decode cX1_deliver 54 = .ok (.iadd, 1) := by decide +kernel
theorem dX1_deliver_55 : decode cX1_deliver 55 = .ok (.iconst 1, 1) := by decide +kernel
theorem dX1_deliver_56 : decode cX1_deliver 56 = .ok (.bastore, 1) := by decide +kernel
theorem dX1_deliver_57 : decode cX1_deliver 57 = .ok (.aload_n 0, 1) := by decide +kernel
theorem dX1_deliver_58 : decode cX1_deliver 58 = .ok (.iload_n 2, 1) := by decide +kernel
theorem dX1_deliver_59 : decode cX1_deliver 59 = .ok (.invokevirtual 53, 3) := by decide +kernel
theorem dX1_deliver_62 : decode cX1_deliver 62 = .ok (.iload_n 3, 1) := by decide +kernel
theorem dX1_deliver_63 : decode cX1_deliver 63 = .ok (.isub, 1) := by decide +kernel
theorem dX1_deliver_64 : decode cX1_deliver 64 = .ok (.ireturn, 1) := by decide +kernel
theorem dX1_isVersion_0 : decode cX1_isVersion 0 = .ok (.iload_n 1, 1) := by decide +kernel
theorem dX1_isVersion_1 : decode cX1_isVersion 1 = .ok (.ifCond .lt 15, 3) := by decide +kernel
theorem dX1_isVersion_4 : decode cX1_isVersion 4 = .ok (.iload_n 1, 1) := by decide +kernel
theorem dX1_isVersion_5 : decode cX1_isVersion 5 = .ok (.aload_n 0, 1) := by decide +kernel
theorem dX1_isVersion_6 : decode cX1_isVersion 6 = .ok (.getfield 35, 3) := by decide +kernel
theorem dX1_isVersion_9 : decode cX1_isVersion 9 = .ok (.if_icmp .ge 7, 3) := by decide +kernel
theorem dX1_isVersion_12 : decode cX1_isVersion 12 = .ok (.iconst 1, 1) := by decide +kernel
theorem dX1_isVersion_13 : decode cX1_isVersion 13 = .ok (.goto 4, 3) := by decide +kernel
theorem dX1_isVersion_16 : decode cX1_isVersion 16 = .ok (.iconst 0, 1) := by decide +kernel
theorem dX1_isVersion_17 : decode cX1_isVersion 17 = .ok (.ireturn, 1) := by decide +kernel
theorem dX1_deliverAll_0 : decode cX1_deliverAll 0 = .ok (.aload_n 0, 1) := by decide +kernel
theorem dX1_deliverAll_1 : decode cX1_deliverAll 1 = .ok (.iload_n 1, 1) := by decide +kernel
theorem dX1_deliverAll_2 : decode cX1_deliverAll 2 = .ok (.invokevirtual 43, 3) := by decide +kernel
theorem dX1_deliverAll_5 : decode cX1_deliverAll 5 = .ok (.ifCond .ne 6, 3) := by decide +kernel
theorem dX1_deliverAll_8 : decode cX1_deliverAll 8 = .ok (.bipush (-4), 2) := by decide +kernel
theorem dX1_deliverAll_10 : decode cX1_deliverAll 10 = .ok (.ireturn, 1) := by decide +kernel
theorem dX1_deliverAll_11 : decode cX1_deliverAll 11 = .ok (.aload_n 0, 1) := by decide +kernel
theorem dX1_deliverAll_12 : decode cX1_deliverAll 12 = .ok (.iload_n 1, 1) := by decide +kernel
theorem dX1_deliverAll_13 : decode cX1_deliverAll 13 = .ok (.invokevirtual 53, 3) := by decide +kernel
theorem dX1_deliverAll_16 : decode cX1_deliverAll 16 = .ok (.istore_n 2, 1) := by decide +kernel
theorem dX1_deliverAll_17 : decode cX1_deliverAll 17 = .ok (.iconst 0, 1) := by decide +kernel
theorem dX1_deliverAll_18 : decode cX1_deliverAll 18 = .ok (.istore_n 3, 1) := by decide +kernel
theorem dX1_deliverAll_19 : decode cX1_deliverAll 19 = .ok (.iload_n 3, 1) := by decide +kernel
theorem dX1_deliverAll_20 : decode cX1_deliverAll 20 = .ok (.aload_n 0, 1) := by decide +kernel
theorem dX1_deliverAll_21 : decode cX1_deliverAll 21 = .ok (.getfield 35, 3) := by decide +kernel
theorem dX1_deliverAll_24 : decode cX1_deliverAll 24 = .ok (.if_icmp .ge 21, 3) := by decide +kernel
theorem dX1_deliverAll_27 : decode cX1_deliverAll 27 = .ok (.aload_n 0, 1) := by decide +kernel
theorem dX1_deliverAll_28 : decode cX1_deliverAll 28 = .ok (.getfield 23, 3) := by decide +kernel
theorem dX1_deliverAll_31 : decode cX1_deliverAll 31 = .ok (.iload_n 1, 1) := by decide +kernel
theorem dX1_deliverAll_32 : decode cX1_deliverAll 32 = .ok (.bipush 40, 2) := by decide +kernel
theorem dX1_deliverAll_34 : decode cX1_deliverAll 34 = .ok (.imul, 1) := by decide +kernel
theorem dX1_deliverAll_35 : decode cX1_deliverAll 35 = .ok (.iload_n 3, 1) := by decide +kernel
theorem dX1_deliverAll_36 : decode cX1_deliverAll 36 = .ok (.iadd, 1) := by decide +kernel
theorem dX1_deliverAll_37 : decode cX1_deliverAll 37 = .ok (.iconst 1, 1) := by decide +kernel
theorem dX1_deliverAll_38 : decode cX1_deliverAll 38 = .ok (.bastore, 1) := by decide +kernel
theorem dX1_deliverAll_39 : decode cX1_deliverAll 39 = .ok (.iinc 3 1, 3) := by decide +kernel
theorem dX1_deliverAll_42 : decode cX1_deliverAll 42 = .ok (.goto (-23), 3) := by decide +kernel
theorem dX1_deliverAll_45 : decode cX1_deliverAll 45 = .ok (.aload_n 0, 1) := by decide +kernel
theorem dX1_deliverAll_46 : decode cX1_deliverAll 46 = .ok (.iload_n 1, 1) := by decide +kernel
theorem dX1_deliverAll_47 : decode cX1_deliverAll 47 = .ok (.invokevirtual 53, 3) := by decide +kernel
theorem dX1_deliverAll_50 : decode cX1_deliverAll 50 = .ok (.iload_n 2, 1) := by decide +kernel
theorem dX1_deliverAll_51 : decode cX1_deliverAll 51 = .ok (.isub, 1) := by decide +kernel
theorem dX1_deliverAll_52 : decode cX1_deliverAll 52 = .ok (.ireturn, 1) := by decide +kernel
theorem dX1_visible_0 : decode cX1_visible 0 = .ok (.aload_n 0, 1) := by decide +kernel
theorem dX1_visible_1 : decode cX1_visible 1 = .ok (.iload_n 1, 1) := by decide +kernel
theorem dX1_visible_2 : decode cX1_visible 2 = .ok (.invokevirtual 57, 3) := by decide +kernel
theorem dX1_visible_5 : decode cX1_visible 5 = .ok (.ifCond .eq 11, 3) := by decide +kernel
theorem dX1_visible_8 : decode cX1_visible 8 = .ok (.aload_n 0, 1) := by decide +kernel
theorem dX1_visible_9 : decode cX1_visible 9 = .ok (.iload_n 2, 1) := by decide +kernel
theorem dX1_visible_10 : decode cX1_visible 10 = .ok (.invokevirtual 43, 3) := by decide +kernel
theorem dX1_visible_13 : decode cX1_visible 13 = .ok (.ifCond .ne 5, 3) := by decide +kernel
theorem dX1_visible_16 : decode cX1_visible 16 = .ok (.iconst 0, 1) := by decide +kernel
theorem dX1_visible_17 : decode cX1_visible 17 = .ok (.ireturn, 1) := by decide +kernel
theorem dX1_visible_18 : decode cX1_visible 18 = .ok (.aload_n 0, 1) := by decide +kernel
theorem dX1_visible_19 : decode cX1_visible 19 = .ok (.iload_n 2, 1) := by decide +kernel
theorem dX1_visible_20 : decode cX1_visible 20 = .ok (.invokevirtual 53, 3) := by decide +kernel
theorem dX1_visible_23 : decode cX1_visible 23 = .ok (.pop, 1) := by decide +kernel
theorem dX1_visible_24 : decode cX1_visible 24 = .ok (.aload_n 0, 1) := by decide +kernel
theorem dX1_visible_25 : decode cX1_visible 25 = .ok (.getfield 32, 3) := by decide +kernel
theorem dX1_visible_28 : decode cX1_visible 28 = .ok (.iload_n 1, 1) := by decide +kernel
theorem dX1_visible_29 : decode cX1_visible 29 = .ok (.baload, 1) := by decide +kernel
theorem dX1_visible_30 : decode cX1_visible 30 = .ok (.ireturn, 1) := by decide +kernel
theorem dX1_value_0 : decode cX1_value 0 = .ok (.aload_n 0, 1) := by decide +kernel
theorem dX1_value_1 : decode cX1_value 1 = .ok (.iload_n 1, 1) := by decide +kernel
theorem dX1_value_2 : decode cX1_value 2 = .ok (.invokevirtual 57, 3) := by decide +kernel
theorem dX1_value_5 : decode cX1_value 5 = .ok (.ifCond .eq 12, 3) := by decide +kernel
theorem dX1_value_8 : decode cX1_value 8 = .ok (.aload_n 0, 1) := by decide +kernel
theorem dX1_value_9 : decode cX1_value 9 = .ok (.getfield 13, 3) := by decide +kernel
theorem dX1_value_12 : decode cX1_value 12 = .ok (.iload_n 1, 1) := by decide +kernel
theorem dX1_value_13 : decode cX1_value 13 = .ok (.iaload, 1) := by decide +kernel
theorem dX1_value_14 : decode cX1_value 14 = .ok (.goto 4, 3) := by decide +kernel
theorem dX1_value_17 : decode cX1_value 17 = .ok (.iconst 0, 1) := by decide +kernel
theorem dX1_value_18 : decode cX1_value 18 = .ok (.ireturn, 1) := by decide +kernel
theorem dX1_stamp_0 : decode cX1_stamp 0 = .ok (.aload_n 0, 1) := by decide +kernel
theorem dX1_stamp_1 : decode cX1_stamp 1 = .ok (.iload_n 1, 1) := by decide +kernel
theorem dX1_stamp_2 : decode cX1_stamp 2 = .ok (.invokevirtual 57, 3) := by decide +kernel
theorem dX1_stamp_5 : decode cX1_stamp 5 = .ok (.ifCond .eq 12, 3) := by decide +kernel
theorem dX1_stamp_8 : decode cX1_stamp 8 = .ok (.aload_n 0, 1) := by decide +kernel
theorem dX1_stamp_9 : decode cX1_stamp 9 = .ok (.getfield 16, 3) := by decide +kernel
theorem dX1_stamp_12 : decode cX1_stamp 12 = .ok (.iload_n 1, 1) := by decide +kernel
theorem dX1_stamp_13 : decode cX1_stamp 13 = .ok (.iaload, 1) := by decide +kernel
theorem dX1_stamp_14 : decode cX1_stamp 14 = .ok (.goto 5, 3) := by decide +kernel
theorem dX1_stamp_17 : decode cX1_stamp 17 = .ok (.bipush (-5), 2) := by decide +kernel
theorem dX1_stamp_19 : decode cX1_stamp 19 = .ok (.ireturn, 1) := by decide +kernel
theorem dX1_depends_0 : decode cX1_depends 0 = .ok (.aload_n 0, 1) := by decide +kernel
theorem dX1_depends_1 : decode cX1_depends 1 = .ok (.iload_n 1, 1) := by decide +kernel
theorem dX1_depends_2 : decode cX1_depends 2 = .ok (.invokevirtual 57, 3) := by decide +kernel
theorem dX1_depends_5 : decode cX1_depends 5 = .ok (.ifCond .eq 34, 3) := by decide +kernel
theorem dX1_depends_8 : decode cX1_depends 8 = .ok (.aload_n 0, 1) := by decide +kernel
theorem dX1_depends_9 : decode cX1_depends 9 = .ok (.iload_n 2, 1) := by decide +kernel
theorem dX1_depends_10 : decode cX1_depends 10 = .ok (.invokevirtual 57, 3) := by decide +kernel
theorem dX1_depends_13 : decode cX1_depends 13 = .ok (.ifCond .eq 26, 3) := by decide +kernel
theorem dX1_depends_16 : decode cX1_depends 16 = .ok (.iload_n 2, 1) := by decide +kernel
theorem dX1_depends_17 : decode cX1_depends 17 = .ok (.iload_n 1, 1) := by decide +kernel
theorem dX1_depends_18 : decode cX1_depends 18 = .ok (.if_icmp .ge 21, 3) := by decide +kernel
theorem dX1_depends_21 : decode cX1_depends 21 = .ok (.aload_n 0, 1) := by decide +kernel
theorem dX1_depends_22 : decode cX1_depends 22 = .ok (.getfield 19, 3) := by decide +kernel
theorem dX1_depends_25 : decode cX1_depends 25 = .ok (.iload_n 1, 1) := by decide +kernel
theorem dX1_depends_26 : decode cX1_depends 26 = .ok (.bipush 40, 2) := by decide +kernel
theorem dX1_depends_28 : decode cX1_depends 28 = .ok (.imul, 1) := by decide +kernel
theorem dX1_depends_29 : decode cX1_depends 29 = .ok (.iload_n 2, 1) := by decide +kernel
theorem dX1_depends_30 : decode cX1_depends 30 = .ok (.iadd, 1) := by decide +kernel
theorem dX1_depends_31 : decode cX1_depends 31 = .ok (.baload, 1) := by decide +kernel
theorem dX1_depends_32 : decode cX1_depends 32 = .ok (.ifCond .eq 7, 3) := by decide +kernel
theorem dX1_depends_35 : decode cX1_depends 35 = .ok (.iconst 1, 1) := by decide +kernel
theorem dX1_depends_36 : decode cX1_depends 36 = .ok (.goto 4, 3) := by decide +kernel
theorem dX1_depends_39 : decode cX1_depends 39 = .ok (.iconst 0, 1) := by decide +kernel
theorem dX1_depends_40 : decode cX1_depends 40 = .ok (.ireturn, 1) := by decide +kernel
theorem dX1_held_0 : decode cX1_held 0 = .ok (.aload_n 0, 1) := by decide +kernel
theorem dX1_held_1 : decode cX1_held 1 = .ok (.iload_n 1, 1) := by decide +kernel
theorem dX1_held_2 : decode cX1_held 2 = .ok (.invokevirtual 43, 3) := by decide +kernel
theorem dX1_held_5 : decode cX1_held 5 = .ok (.ifCond .ne 6, 3) := by decide +kernel
theorem dX1_held_8 : decode cX1_held 8 = .ok (.bipush (-4), 2) := by decide +kernel
theorem dX1_held_10 : decode cX1_held 10 = .ok (.ireturn, 1) := by decide +kernel
theorem dX1_held_11 : decode cX1_held 11 = .ok (.iconst 0, 1) := by decide +kernel
theorem dX1_held_12 : decode cX1_held 12 = .ok (.istore_n 2, 1) := by decide +kernel
theorem dX1_held_13 : decode cX1_held 13 = .ok (.aload_n 0, 1) := by decide +kernel
theorem dX1_held_14 : decode cX1_held 14 = .ok (.iload_n 1, 1) := by decide +kernel
theorem dX1_held_15 : decode cX1_held 15 = .ok (.invokevirtual 53, 3) := by decide +kernel
theorem dX1_held_18 : decode cX1_held 18 = .ok (.pop, 1) := by decide +kernel
theorem dX1_held_19 : decode cX1_held 19 = .ok (.iconst 0, 1) := by decide +kernel
theorem dX1_held_20 : decode cX1_held 20 = .ok (.istore_n 3, 1) := by decide +kernel
theorem dX1_held_21 : decode cX1_held 21 = .ok (.iload_n 3, 1) := by decide +kernel
theorem dX1_held_22 : decode cX1_held 22 = .ok (.aload_n 0, 1) := by decide +kernel
theorem dX1_held_23 : decode cX1_held 23 = .ok (.getfield 35, 3) := by decide +kernel
theorem dX1_held_26 : decode cX1_held 26 = .ok (.if_icmp .ge 35, 3) := by decide +kernel
theorem dX1_held_29 : decode cX1_held 29 = .ok (.aload_n 0, 1) := by decide +kernel
theorem dX1_held_30 : decode cX1_held 30 = .ok (.getfield 23, 3) := by decide +kernel
theorem dX1_held_33 : decode cX1_held 33 = .ok (.iload_n 1, 1) := by decide +kernel
theorem dX1_held_34 : decode cX1_held 34 = .ok (.bipush 40, 2) := by decide +kernel
theorem dX1_held_36 : decode cX1_held 36 = .ok (.imul, 1) := by decide +kernel
theorem dX1_held_37 : decode cX1_held 37 = .ok (.iload_n 3, 1) := by decide +kernel
theorem dX1_held_38 : decode cX1_held 38 = .ok (.iadd, 1) := by decide +kernel
theorem dX1_held_39 : decode cX1_held 39 = .ok (.baload, 1) := by decide +kernel
theorem dX1_held_40 : decode cX1_held 40 = .ok (.ifCond .eq 15, 3) := by decide +kernel
theorem dX1_held_43 : decode cX1_held 43 = .ok (.aload_n 0, 1) := by decide +kernel
theorem dX1_held_44 : decode cX1_held 44 = .ok (.getfield 32, 3) := by decide +kernel
theorem dX1_held_47 : decode cX1_held 47 = .ok (.iload_n 3, 1) := by decide +kernel
theorem dX1_held_48 : decode cX1_held 48 = .ok (.baload, 1) := by decide +kernel
theorem dX1_held_49 : decode cX1_held 49 = .ok (.ifCond .ne 6, 3) := by decide +kernel
theorem dX1_held_52 : decode cX1_held 52 = .ok (.iinc 2 1, 3) := by decide +kernel
theorem dX1_held_55 : decode cX1_held 55 = .ok (.iinc 3 1, 3) := by decide +kernel
theorem dX1_held_58 : decode cX1_held 58 = .ok (.goto (-37), 3) := by decide +kernel
theorem dX1_held_61 : decode cX1_held 61 = .ok (.iload_n 2, 1) := by decide +kernel
theorem dX1_held_62 : decode cX1_held 62 = .ok (.ireturn, 1) := by decide +kernel
theorem dX1_seen_0 : decode cX1_seen 0 = .ok (.aload_n 0, 1) := by decide +kernel
theorem dX1_seen_1 : decode cX1_seen 1 = .ok (.iload_n 1, 1) := by decide +kernel
theorem dX1_seen_2 : decode cX1_seen 2 = .ok (.invokevirtual 43, 3) := by decide +kernel
theorem dX1_seen_5 : decode cX1_seen 5 = .ok (.ifCond .ne 5, 3) := by decide +kernel
theorem dX1_seen_8 : decode cX1_seen 8 = .ok (.iconst (-1), 1) := by decide +kernel
theorem dX1_seen_9 : decode cX1_seen 9 = .ok (.ireturn, 1) := by decide +kernel
theorem dX1_seen_10 : decode cX1_seen 10 = .ok (.iconst 0, 1) := by decide +kernel
theorem dX1_seen_11 : decode cX1_seen 11 = .ok (.istore_n 2, 1) := by decide +kernel
theorem dX1_seen_12 : decode cX1_seen 12 = .ok (.iconst 0, 1) := by decide +kernel
theorem dX1_seen_13 : decode cX1_seen 13 = .ok (.istore_n 3, 1) := by decide +kernel
theorem dX1_seen_14 : decode cX1_seen 14 = .ok (.iload_n 3, 1) := by decide +kernel
theorem dX1_seen_15 : decode cX1_seen 15 = .ok (.aload_n 0, 1) := by decide +kernel
theorem dX1_seen_16 : decode cX1_seen 16 = .ok (.getfield 35, 3) := by decide +kernel
theorem dX1_seen_19 : decode cX1_seen 19 = .ok (.if_icmp .ge 26, 3) := by decide +kernel
theorem dX1_seen_22 : decode cX1_seen 22 = .ok (.aload_n 0, 1) := by decide +kernel
theorem dX1_seen_23 : decode cX1_seen 23 = .ok (.getfield 26, 3) := by decide +kernel
theorem dX1_seen_26 : decode cX1_seen 26 = .ok (.iload_n 1, 1) := by decide +kernel
theorem dX1_seen_27 : decode cX1_seen 27 = .ok (.bipush 40, 2) := by decide +kernel
theorem dX1_seen_29 : decode cX1_seen 29 = .ok (.imul, 1) := by decide +kernel
theorem dX1_seen_30 : decode cX1_seen 30 = .ok (.iload_n 3, 1) := by decide +kernel
theorem dX1_seen_31 : decode cX1_seen 31 = .ok (.iadd, 1) := by decide +kernel
theorem dX1_seen_32 : decode cX1_seen 32 = .ok (.baload, 1) := by decide +kernel
theorem dX1_seen_33 : decode cX1_seen 33 = .ok (.ifCond .eq 6, 3) := by decide +kernel
theorem dX1_seen_36 : decode cX1_seen 36 = .ok (.iinc 2 1, 3) := by decide +kernel
theorem dX1_seen_39 : decode cX1_seen 39 = .ok (.iinc 3 1, 3) := by decide +kernel
theorem dX1_seen_42 : decode cX1_seen 42 = .ok (.goto (-28), 3) := by decide +kernel
theorem dX1_seen_45 : decode cX1_seen 45 = .ok (.iload_n 2, 1) := by decide +kernel
theorem dX1_seen_46 : decode cX1_seen 46 = .ok (.ireturn, 1) := by decide +kernel
theorem dX1_agree_0 : decode cX1_agree 0 = .ok (.aload_n 0, 1) := by decide +kernel
theorem dX1_agree_1 : decode cX1_agree 1 = .ok (.iload_n 1, 1) := by decide +kernel
theorem dX1_agree_2 : decode cX1_agree 2 = .ok (.invokevirtual 43, 3) := by decide +kernel
theorem dX1_agree_5 : decode cX1_agree 5 = .ok (.ifCond .eq 11, 3) := by decide +kernel
theorem dX1_agree_8 : decode cX1_agree 8 = .ok (.aload_n 0, 1) := by decide +kernel
theorem dX1_agree_9 : decode cX1_agree 9 = .ok (.iload_n 2, 1) := by decide +kernel
theorem dX1_agree_10 : decode cX1_agree 10 = .ok (.invokevirtual 43, 3) := by decide +kernel
theorem dX1_agree_13 : decode cX1_agree 13 = .ok (.ifCond .ne 6, 3) := by decide +kernel
theorem dX1_agree_16 : decode cX1_agree 16 = .ok (.bipush (-4), 2) := by decide +kernel
theorem dX1_agree_18 : decode cX1_agree 18 = .ok (.ireturn, 1) := by decide +kernel
theorem dX1_agree_19 : decode cX1_agree 19 = .ok (.iconst 0, 1) := by decide +kernel
theorem dX1_agree_20 : decode cX1_agree 20 = .ok (.istore_n 3, 1) := by decide +kernel
theorem dX1_agree_21 : decode cX1_agree 21 = .ok (.iconst 0, 1) := by decide +kernel
theorem dX1_agree_22 : decode cX1_agree 22 = .ok (.istore 4, 2) := by decide +kernel
theorem dX1_agree_24 : decode cX1_agree 24 = .ok (.iload 4, 2) := by decide +kernel
theorem dX1_agree_26 : decode cX1_agree 26 = .ok (.bipush 6, 2) := by decide +kernel
theorem dX1_agree_28 : decode cX1_agree 28 = .ok (.if_icmp .ge 29, 3) := by decide +kernel
theorem dX1_agree_31 : decode cX1_agree 31 = .ok (.aload_n 0, 1) := by decide +kernel
theorem dX1_agree_32 : decode cX1_agree 32 = .ok (.iload_n 1, 1) := by decide +kernel
theorem dX1_agree_33 : decode cX1_agree 33 = .ok (.iload 4, 2) := by decide +kernel
theorem dX1_agree_35 : decode cX1_agree 35 = .ok (.invokevirtual 49, 3) := by decide +kernel
theorem dX1_agree_38 : decode cX1_agree 38 = .ok (.aload_n 0, 1) := by decide +kernel
theorem dX1_agree_39 : decode cX1_agree 39 = .ok (.iload_n 2, 1) := by decide +kernel
theorem dX1_agree_40 : decode cX1_agree 40 = .ok (.iload 4, 2) := by decide +kernel
theorem dX1_agree_42 : decode cX1_agree 42 = .ok (.invokevirtual 49, 3) := by decide +kernel
theorem dX1_agree_45 : decode cX1_agree 45 = .ok (.if_icmp .ne 6, 3) := by decide +kernel
theorem dX1_agree_48 : decode cX1_agree 48 = .ok (.iinc 3 1, 3) := by decide +kernel
theorem dX1_agree_51 : decode cX1_agree 51 = .ok (.iinc 4 1, 3) := by decide +kernel
theorem dX1_agree_54 : decode cX1_agree 54 = .ok (.goto (-30), 3) := by decide +kernel
theorem dX1_agree_57 : decode cX1_agree 57 = .ok (.iload_n 3, 1) := by decide +kernel
theorem dX1_agree_58 : decode cX1_agree 58 = .ok (.ireturn, 1) := by decide +kernel
end
section
set_option maxRecDepth 100000
theorem dL_law_0 : decode cL_law 0 = .ok (.new 7, 3) := by decide +kernel
theorem dL_law_3 : decode cL_law 3 = .ok (.dup, 1) := by decide +kernel
theorem dL_law_4 : decode cL_law 4 = .ok (.invokespecial 9, 3) := by decide +kernel
theorem dL_law_7 : decode cL_law 7 = .ok (.astore_n 1, 1) := by decide +kernel
theorem dL_law_8 : decode cL_law 8 = .ok (.new 10, 3) := by decide +kernel
theorem dL_law_11 : decode cL_law 11 = .ok (.dup, 1) := by decide +kernel
theorem dL_law_12 : decode cL_law 12 = .ok (.invokespecial 12, 3) := by decide +kernel
theorem dL_law_15 : decode cL_law 15 = .ok (.astore_n 2, 1) := by decide +kernel
theorem dL_law_16 : decode cL_law 16 = .ok (.iconst 0, 1) := by decide +kernel
theorem dL_law_17 : decode cL_law 17 = .ok (.istore_n 3, 1) := by decide +kernel
theorem dL_law_18 : decode cL_law 18 = .ok (.iload_n 3, 1) := by decide +kernel
theorem dL_law_19 : decode cL_law 19 = .ok (.aload_n 0, 1) := by decide +kernel
theorem dL_law_20 : decode cL_law 20 = .ok (.arraylength, 1) := by decide +kernel
theorem dL_law_21 : decode cL_law 21 = .ok (.iconst 4, 1) := by decide +kernel
theorem dL_law_22 : decode cL_law 22 = .ok (.isub, 1) := by decide +kernel
theorem dL_law_23 : decode cL_law 23 = .ok (.if_icmp .gt 472, 3) := by decide +kernel
theorem dL_law_26 : decode cL_law 26 = .ok (.aload_n 0, 1) := by decide +kernel
theorem dL_law_27 : decode cL_law 27 = .ok (.iload_n 3, 1) := by decide +kernel
theorem dL_law_28 : decode cL_law 28 = .ok (.iaload, 1) := by decide +kernel
theorem dL_law_29 : decode cL_law 29 = .ok (.bipush 15, 2) := by decide +kernel
theorem dL_law_31 : decode cL_law 31 = .ok (.iand, 1) := by decide +kernel
theorem dL_law_32 : decode cL_law 32 = .ok (.tableswitch 457 0 12 #[68, 111, 144, 177, 210, 233, 266, 299, 322, 345, 378, 401, 424], 68) := by decide +kernel
theorem dL_law_100 : decode cL_law 100 = .ok (.aload_n 1, 1) := by decide +kernel
theorem dL_law_101 : decode cL_law 101 = .ok (.aload_n 0, 1) := by decide +kernel
theorem dL_law_102 : decode cL_law 102 = .ok (.iload_n 3, 1) := by decide +kernel
theorem dL_law_103 : decode cL_law 103 = .ok (.iconst 1, 1) := by decide +kernel
theorem dL_law_104 : decode cL_law 104 = .ok (.iadd, 1) := by decide +kernel
theorem dL_law_105 : decode cL_law 105 = .ok (.iaload, 1) := by decide +kernel
theorem dL_law_106 : decode cL_law 106 = .ok (.aload_n 0, 1) := by decide +kernel
theorem dL_law_107 : decode cL_law 107 = .ok (.iload_n 3, 1) := by decide +kernel
theorem dL_law_108 : decode cL_law 108 = .ok (.iconst 2, 1) := by decide +kernel
theorem dL_law_109 : decode cL_law 109 = .ok (.iadd, 1) := by decide +kernel
theorem dL_law_110 : decode cL_law 110 = .ok (.iaload, 1) := by decide +kernel
theorem dL_law_111 : decode cL_law 111 = .ok (.aload_n 0, 1) := by decide +kernel
theorem dL_law_112 : decode cL_law 112 = .ok (.iload_n 3, 1) := by decide +kernel
theorem dL_law_113 : decode cL_law 113 = .ok (.iconst 3, 1) := by decide +kernel
theorem dL_law_114 : decode cL_law 114 = .ok (.iadd, 1) := by decide +kernel
theorem dL_law_115 : decode cL_law 115 = .ok (.iaload, 1) := by decide +kernel
theorem dL_law_116 : decode cL_law 116 = .ok (.invokevirtual 13, 3) := by decide +kernel
theorem dL_law_119 : decode cL_law 119 = .ok (.aload_n 2, 1) := by decide +kernel
theorem dL_law_120 : decode cL_law 120 = .ok (.aload_n 0, 1) := by decide +kernel
theorem dL_law_121 : decode cL_law 121 = .ok (.iload_n 3, 1) := by decide +kernel
theorem dL_law_122 : decode cL_law 122 = .ok (.iconst 1, 1) := by decide +kernel
theorem dL_law_123 : decode cL_law 123 = .ok (.iadd, 1) := by decide +kernel
theorem dL_law_124 : decode cL_law 124 = .ok (.iaload, 1) := by decide +kernel
theorem dL_law_125 : decode cL_law 125 = .ok (.aload_n 0, 1) := by decide +kernel
theorem dL_law_126 : decode cL_law 126 = .ok (.iload_n 3, 1) := by decide +kernel
theorem dL_law_127 : decode cL_law 127 = .ok (.iconst 2, 1) := by decide +kernel
theorem dL_law_128 : decode cL_law 128 = .ok (.iadd, 1) := by decide +kernel
theorem dL_law_129 : decode cL_law 129 = .ok (.iaload, 1) := by decide +kernel
theorem dL_law_130 : decode cL_law 130 = .ok (.aload_n 0, 1) := by decide +kernel
theorem dL_law_131 : decode cL_law 131 = .ok (.iload_n 3, 1) := by decide +kernel
theorem dL_law_132 : decode cL_law 132 = .ok (.iconst 3, 1) := by decide +kernel
theorem dL_law_133 : decode cL_law 133 = .ok (.iadd, 1) := by decide +kernel
theorem dL_law_134 : decode cL_law 134 = .ok (.iaload, 1) := by decide +kernel
theorem dL_law_135 : decode cL_law 135 = .ok (.invokevirtual 17, 3) := by decide +kernel
theorem dL_law_138 : decode cL_law 138 = .ok (.if_icmp .eq 351, 3) := by decide +kernel
theorem dL_law_141 : decode cL_law 141 = .ok (.iconst 0, 1) := by decide +kernel
theorem dL_law_142 : decode cL_law 142 = .ok (.ireturn, 1) := by decide +kernel
theorem dL_law_143 : decode cL_law 143 = .ok (.aload_n 1, 1) := by decide +kernel
theorem dL_law_144 : decode cL_law 144 = .ok (.aload_n 0, 1) := by decide +kernel
theorem dL_law_145 : decode cL_law 145 = .ok (.iload_n 3, 1) := by decide +kernel
theorem dL_law_146 : decode cL_law 146 = .ok (.iconst 1, 1) := by decide +kernel
theorem dL_law_147 : decode cL_law 147 = .ok (.iadd, 1) := by decide +kernel
theorem dL_law_148 : decode cL_law 148 = .ok (.iaload, 1) := by decide +kernel
theorem dL_law_149 : decode cL_law 149 = .ok (.aload_n 0, 1) := by decide +kernel
theorem dL_law_150 : decode cL_law 150 = .ok (.iload_n 3, 1) := by decide +kernel
theorem dL_law_151 : decode cL_law 151 = .ok (.iconst 2, 1) := by decide +kernel
theorem dL_law_152 : decode cL_law 152 = .ok (.iadd, 1) := by decide +kernel
theorem dL_law_153 : decode cL_law 153 = .ok (.iaload, 1) := by decide +kernel
theorem dL_law_154 : decode cL_law 154 = .ok (.invokevirtual 18, 3) := by decide +kernel
theorem dL_law_157 : decode cL_law 157 = .ok (.aload_n 2, 1) := by decide +kernel
theorem dL_law_158 : decode cL_law 158 = .ok (.aload_n 0, 1) := by decide +kernel
theorem dL_law_159 : decode cL_law 159 = .ok (.iload_n 3, 1) := by decide +kernel
theorem dL_law_160 : decode cL_law 160 = .ok (.iconst 1, 1) := by decide +kernel
theorem dL_law_161 : decode cL_law 161 = .ok (.iadd, 1) := by decide +kernel
theorem dL_law_162 : decode cL_law 162 = .ok (.iaload, 1) := by decide +kernel
theorem dL_law_163 : decode cL_law 163 = .ok (.aload_n 0, 1) := by decide +kernel
theorem dL_law_164 : decode cL_law 164 = .ok (.iload_n 3, 1) := by decide +kernel
theorem dL_law_165 : decode cL_law 165 = .ok (.iconst 2, 1) := by decide +kernel
theorem dL_law_166 : decode cL_law 166 = .ok (.iadd, 1) := by decide +kernel
theorem dL_law_167 : decode cL_law 167 = .ok (.iaload, 1) := by decide +kernel
theorem dL_law_168 : decode cL_law 168 = .ok (.invokevirtual 22, 3) := by decide +kernel
theorem dL_law_171 : decode cL_law 171 = .ok (.if_icmp .eq 318, 3) := by decide +kernel
theorem dL_law_174 : decode cL_law 174 = .ok (.iconst 0, 1) := by decide +kernel
theorem dL_law_175 : decode cL_law 175 = .ok (.ireturn, 1) := by decide +kernel
theorem dL_law_176 : decode cL_law 176 = .ok (.aload_n 1, 1) := by decide +kernel
theorem dL_law_177 : decode cL_law 177 = .ok (.aload_n 0, 1) := by decide +kernel
theorem dL_law_178 : decode cL_law 178 = .ok (.iload_n 3, 1) := by decide +kernel
theorem dL_law_179 : decode cL_law 179 = .ok (.iconst 1, 1) := by decide +kernel
theorem dL_law_180 : decode cL_law 180 = .ok (.iadd, 1) := by decide +kernel
theorem dL_law_181 : decode cL_law 181 = .ok (.iaload, 1) := by decide +kernel
theorem dL_law_182 : decode cL_law 182 = .ok (.aload_n 0, 1) := by decide +kernel
theorem dL_law_183 : decode cL_law 183 = .ok (.iload_n 3, 1) := by decide +kernel
theorem dL_law_184 : decode cL_law 184 = .ok (.iconst 2, 1) := by decide +kernel
theorem dL_law_185 : decode cL_law 185 = .ok (.iadd, 1) := by decide +kernel
theorem dL_law_186 : decode cL_law 186 = .ok (.iaload, 1) := by decide +kernel
theorem dL_law_187 : decode cL_law 187 = .ok (.invokevirtual 23, 3) := by decide +kernel
theorem dL_law_190 : decode cL_law 190 = .ok (.aload_n 2, 1) := by decide +kernel
theorem dL_law_191 : decode cL_law 191 = .ok (.aload_n 0, 1) := by decide +kernel
theorem dL_law_192 : decode cL_law 192 = .ok (.iload_n 3, 1) := by decide +kernel
theorem dL_law_193 : decode cL_law 193 = .ok (.iconst 1, 1) := by decide +kernel
theorem dL_law_194 : decode cL_law 194 = .ok (.iadd, 1) := by decide +kernel
theorem dL_law_195 : decode cL_law 195 = .ok (.iaload, 1) := by decide +kernel
theorem dL_law_196 : decode cL_law 196 = .ok (.aload_n 0, 1) := by decide +kernel
theorem dL_law_197 : decode cL_law 197 = .ok (.iload_n 3, 1) := by decide +kernel
theorem dL_law_198 : decode cL_law 198 = .ok (.iconst 2, 1) := by decide +kernel
theorem dL_law_199 : decode cL_law 199 = .ok (.iadd, 1) := by decide +kernel
theorem dL_law_200 : decode cL_law 200 = .ok (.iaload, 1) := by decide +kernel
theorem dL_law_201 : decode cL_law 201 = .ok (.invokevirtual 26, 3) := by decide +kernel
theorem dL_law_204 : decode cL_law 204 = .ok (.if_icmp .eq 285, 3) := by decide +kernel
theorem dL_law_207 : decode cL_law 207 = .ok (.iconst 0, 1) := by decide +kernel
theorem dL_law_208 : decode cL_law 208 = .ok (.ireturn, 1) := by decide +kernel
theorem dL_law_209 : decode cL_law 209 = .ok (.aload_n 1, 1) := by decide +kernel
theorem dL_law_210 : decode cL_law 210 = .ok (.aload_n 0, 1) := by decide +kernel
theorem dL_law_211 : decode cL_law 211 = .ok (.iload_n 3, 1) := by decide +kernel
theorem dL_law_212 : decode cL_law 212 = .ok (.iconst 1, 1) := by decide +kernel
theorem dL_law_213 : decode cL_law 213 = .ok (.iadd, 1) := by decide +kernel
theorem dL_law_214 : decode cL_law 214 = .ok (.iaload, 1) := by decide +kernel
theorem dL_law_215 : decode cL_law 215 = .ok (.aload_n 0, 1) := by decide +kernel
theorem dL_law_216 : decode cL_law 216 = .ok (.iload_n 3, 1) := by decide +kernel
theorem dL_law_217 : decode cL_law 217 = .ok (.iconst 2, 1) := by decide +kernel
theorem dL_law_218 : decode cL_law 218 = .ok (.iadd, 1) := by decide +kernel
theorem dL_law_219 : decode cL_law 219 = .ok (.iaload, 1) := by decide +kernel
theorem dL_law_220 : decode cL_law 220 = .ok (.invokevirtual 27, 3) := by decide +kernel
theorem dL_law_223 : decode cL_law 223 = .ok (.aload_n 2, 1) := by decide +kernel
theorem dL_law_224 : decode cL_law 224 = .ok (.aload_n 0, 1) := by decide +kernel
theorem dL_law_225 : decode cL_law 225 = .ok (.iload_n 3, 1) := by decide +kernel
theorem dL_law_226 : decode cL_law 226 = .ok (.iconst 1, 1) := by decide +kernel
theorem dL_law_227 : decode cL_law 227 = .ok (.iadd, 1) := by decide +kernel
theorem dL_law_228 : decode cL_law 228 = .ok (.iaload, 1) := by decide +kernel
theorem dL_law_229 : decode cL_law 229 = .ok (.aload_n 0, 1) := by decide +kernel
theorem dL_law_230 : decode cL_law 230 = .ok (.iload_n 3, 1) := by decide +kernel
theorem dL_law_231 : decode cL_law 231 = .ok (.iconst 2, 1) := by decide +kernel
theorem dL_law_232 : decode cL_law 232 = .ok (.iadd, 1) := by decide +kernel
theorem dL_law_233 : decode cL_law 233 = .ok (.iaload, 1) := by decide +kernel
theorem dL_law_234 : decode cL_law 234 = .ok (.invokevirtual 30, 3) := by decide +kernel
theorem dL_law_237 : decode cL_law 237 = .ok (.if_icmp .eq 252, 3) := by decide +kernel
theorem dL_law_240 : decode cL_law 240 = .ok (.iconst 0, 1) := by decide +kernel
theorem dL_law_241 : decode cL_law 241 = .ok (.ireturn, 1) := by decide +kernel
theorem dL_law_242 : decode cL_law 242 = .ok (.aload_n 1, 1) := by decide +kernel
theorem dL_law_243 : decode cL_law 243 = .ok (.aload_n 0, 1) := by decide +kernel
theorem dL_law_244 : decode cL_law 244 = .ok (.iload_n 3, 1) := by decide +kernel
theorem dL_law_245 : decode cL_law 245 = .ok (.iconst 1, 1) := by decide +kernel
theorem dL_law_246 : decode cL_law 246 = .ok (.iadd, 1) := by decide +kernel
theorem dL_law_247 : decode cL_law 247 = .ok (.iaload, 1) := by decide +kernel
theorem dL_law_248 : decode cL_law 248 = .ok (.invokevirtual 31, 3) := by decide +kernel
theorem dL_law_251 : decode cL_law 251 = .ok (.aload_n 2, 1) := by decide +kernel
theorem dL_law_252 : decode cL_law 252 = .ok (.aload_n 0, 1) := by decide +kernel
theorem dL_law_253 : decode cL_law 253 = .ok (.iload_n 3, 1) := by decide +kernel
theorem dL_law_254 : decode cL_law 254 = .ok (.iconst 1, 1) := by decide +kernel
theorem dL_law_255 : decode cL_law 255 = .ok (.iadd, 1) := by decide +kernel
theorem dL_law_256 : decode cL_law 256 = .ok (.iaload, 1) := by decide +kernel
theorem dL_law_257 : decode cL_law 257 = .ok (.invokevirtual 35, 3) := by decide +kernel
theorem dL_law_260 : decode cL_law 260 = .ok (.if_icmp .eq 229, 3) := by decide +kernel
theorem dL_law_263 : decode cL_law 263 = .ok (.iconst 0, 1) := by decide +kernel
theorem dL_law_264 : decode cL_law 264 = .ok (.ireturn, 1) := by decide +kernel
theorem dL_law_265 : decode cL_law 265 = .ok (.aload_n 1, 1) := by decide +kernel
theorem dL_law_266 : decode cL_law 266 = .ok (.aload_n 0, 1) := by decide +kernel
theorem dL_law_267 : decode cL_law 267 = .ok (.iload_n 3, 1) := by decide +kernel
theorem dL_law_268 : decode cL_law 268 = .ok (.iconst 1, 1) := by decide +kernel
theorem dL_law_269 : decode cL_law 269 = .ok (.iadd, 1) := by decide +kernel
theorem dL_law_270 : decode cL_law 270 = .ok (.iaload, 1) := by decide +kernel
theorem dL_law_271 : decode cL_law 271 = .ok (.aload_n 0, 1) := by decide +kernel
theorem dL_law_272 : decode cL_law 272 = .ok (.iload_n 3, 1) := by decide +kernel
theorem dL_law_273 : decode cL_law 273 = .ok (.iconst 2, 1) := by decide +kernel
theorem dL_law_274 : decode cL_law 274 = .ok (.iadd, 1) := by decide +kernel
theorem dL_law_275 : decode cL_law 275 = .ok (.iaload, 1) := by decide +kernel
theorem dL_law_276 : decode cL_law 276 = .ok (.invokevirtual 36, 3) := by decide +kernel
theorem dL_law_279 : decode cL_law 279 = .ok (.aload_n 2, 1) := by decide +kernel
theorem dL_law_280 : decode cL_law 280 = .ok (.aload_n 0, 1) := by decide +kernel
theorem dL_law_281 : decode cL_law 281 = .ok (.iload_n 3, 1) := by decide +kernel
theorem dL_law_282 : decode cL_law 282 = .ok (.iconst 1, 1) := by decide +kernel
theorem dL_law_283 : decode cL_law 283 = .ok (.iadd, 1) := by decide +kernel
theorem dL_law_284 : decode cL_law 284 = .ok (.iaload, 1) := by decide +kernel
theorem dL_law_285 : decode cL_law 285 = .ok (.aload_n 0, 1) := by decide +kernel
theorem dL_law_286 : decode cL_law 286 = .ok (.iload_n 3, 1) := by decide +kernel
theorem dL_law_287 : decode cL_law 287 = .ok (.iconst 2, 1) := by decide +kernel
theorem dL_law_288 : decode cL_law 288 = .ok (.iadd, 1) := by decide +kernel
theorem dL_law_289 : decode cL_law 289 = .ok (.iaload, 1) := by decide +kernel
theorem dL_law_290 : decode cL_law 290 = .ok (.invokevirtual 40, 3) := by decide +kernel
theorem dL_law_293 : decode cL_law 293 = .ok (.if_icmp .eq 196, 3) := by decide +kernel
theorem dL_law_296 : decode cL_law 296 = .ok (.iconst 0, 1) := by decide +kernel
theorem dL_law_297 : decode cL_law 297 = .ok (.ireturn, 1) := by decide +kernel
theorem dL_law_298 : decode cL_law 298 = .ok (.aload_n 1, 1) := by decide +kernel
theorem dL_law_299 : decode cL_law 299 = .ok (.aload_n 0, 1) := by decide +kernel
theorem dL_law_300 : decode cL_law 300 = .ok (.iload_n 3, 1) := by decide +kernel
theorem dL_law_301 : decode cL_law 301 = .ok (.iconst 1, 1) := by decide +kernel
theorem dL_law_302 : decode cL_law 302 = .ok (.iadd, 1) := by decide +kernel
theorem dL_law_303 : decode cL_law 303 = .ok (.iaload, 1) := by decide +kernel
theorem dL_law_304 : decode cL_law 304 = .ok (.aload_n 0, 1) := by decide +kernel
theorem dL_law_305 : decode cL_law 305 = .ok (.iload_n 3, 1) := by decide +kernel
theorem dL_law_306 : decode cL_law 306 = .ok (.iconst 2, 1) := by decide +kernel
theorem dL_law_307 : decode cL_law 307 = .ok (.iadd, 1) := by decide +kernel
theorem dL_law_308 : decode cL_law 308 = .ok (.iaload, 1) := by decide +kernel
theorem dL_law_309 : decode cL_law 309 = .ok (.invokevirtual 41, 3) := by decide +kernel
theorem dL_law_312 : decode cL_law 312 = .ok (.aload_n 2, 1) := by decide +kernel
theorem dL_law_313 : decode cL_law 313 = .ok (.aload_n 0, 1) := by decide +kernel
theorem dL_law_314 : decode cL_law 314 = .ok (.iload_n 3, 1) := by decide +kernel
theorem dL_law_315 : decode cL_law 315 = .ok (.iconst 1, 1) := by decide +kernel
theorem dL_law_316 : decode cL_law 316 = .ok (.iadd, 1) := by decide +kernel
theorem dL_law_317 : decode cL_law 317 = .ok (.iaload, 1) := by decide +kernel
theorem dL_law_318 : decode cL_law 318 = .ok (.aload_n 0, 1) := by decide +kernel
theorem dL_law_319 : decode cL_law 319 = .ok (.iload_n 3, 1) := by decide +kernel
theorem dL_law_320 : decode cL_law 320 = .ok (.iconst 2, 1) := by decide +kernel
theorem dL_law_321 : decode cL_law 321 = .ok (.iadd, 1) := by decide +kernel
theorem dL_law_322 : decode cL_law 322 = .ok (.iaload, 1) := by decide +kernel
theorem dL_law_323 : decode cL_law 323 = .ok (.invokevirtual 44, 3) := by decide +kernel
theorem dL_law_326 : decode cL_law 326 = .ok (.if_icmp .eq 163, 3) := by decide +kernel
theorem dL_law_329 : decode cL_law 329 = .ok (.iconst 0, 1) := by decide +kernel
theorem dL_law_330 : decode cL_law 330 = .ok (.ireturn, 1) := by decide +kernel
theorem dL_law_331 : decode cL_law 331 = .ok (.aload_n 1, 1) := by decide +kernel
theorem dL_law_332 : decode cL_law 332 = .ok (.aload_n 0, 1) := by decide +kernel
theorem dL_law_333 : decode cL_law 333 = .ok (.iload_n 3, 1) := by decide +kernel
theorem dL_law_334 : decode cL_law 334 = .ok (.iconst 1, 1) := by decide +kernel
theorem dL_law_335 : decode cL_law 335 = .ok (.iadd, 1) := by decide +kernel
theorem dL_law_336 : decode cL_law 336 = .ok (.iaload, 1) := by decide +kernel
theorem dL_law_337 : decode cL_law 337 = .ok (.invokevirtual 45, 3) := by decide +kernel
theorem dL_law_340 : decode cL_law 340 = .ok (.aload_n 2, 1) := by decide +kernel
theorem dL_law_341 : decode cL_law 341 = .ok (.aload_n 0, 1) := by decide +kernel
theorem dL_law_342 : decode cL_law 342 = .ok (.iload_n 3, 1) := by decide +kernel
theorem dL_law_343 : decode cL_law 343 = .ok (.iconst 1, 1) := by decide +kernel
theorem dL_law_344 : decode cL_law 344 = .ok (.iadd, 1) := by decide +kernel
theorem dL_law_345 : decode cL_law 345 = .ok (.iaload, 1) := by decide +kernel
theorem dL_law_346 : decode cL_law 346 = .ok (.invokevirtual 48, 3) := by decide +kernel
theorem dL_law_349 : decode cL_law 349 = .ok (.if_icmp .eq 140, 3) := by decide +kernel
theorem dL_law_352 : decode cL_law 352 = .ok (.iconst 0, 1) := by decide +kernel
theorem dL_law_353 : decode cL_law 353 = .ok (.ireturn, 1) := by decide +kernel
theorem dL_law_354 : decode cL_law 354 = .ok (.aload_n 1, 1) := by decide +kernel
theorem dL_law_355 : decode cL_law 355 = .ok (.aload_n 0, 1) := by decide +kernel
theorem dL_law_356 : decode cL_law 356 = .ok (.iload_n 3, 1) := by decide +kernel
theorem dL_law_357 : decode cL_law 357 = .ok (.iconst 1, 1) := by decide +kernel
theorem dL_law_358 : decode cL_law 358 = .ok (.iadd, 1) := by decide +kernel
theorem dL_law_359 : decode cL_law 359 = .ok (.iaload, 1) := by decide +kernel
theorem dL_law_360 : decode cL_law 360 = .ok (.invokevirtual 49, 3) := by decide +kernel
theorem dL_law_363 : decode cL_law 363 = .ok (.aload_n 2, 1) := by decide +kernel
theorem dL_law_364 : decode cL_law 364 = .ok (.aload_n 0, 1) := by decide +kernel
theorem dL_law_365 : decode cL_law 365 = .ok (.iload_n 3, 1) := by decide +kernel
theorem dL_law_366 : decode cL_law 366 = .ok (.iconst 1, 1) := by decide +kernel
theorem dL_law_367 : decode cL_law 367 = .ok (.iadd, 1) := by decide +kernel
theorem dL_law_368 : decode cL_law 368 = .ok (.iaload, 1) := by decide +kernel
theorem dL_law_369 : decode cL_law 369 = .ok (.invokevirtual 52, 3) := by decide +kernel
theorem dL_law_372 : decode cL_law 372 = .ok (.if_icmp .eq 117, 3) := by decide +kernel
theorem dL_law_375 : decode cL_law 375 = .ok (.iconst 0, 1) := by decide +kernel
theorem dL_law_376 : decode cL_law 376 = .ok (.ireturn, 1) := by decide +kernel
theorem dL_law_377 : decode cL_law 377 = .ok (.aload_n 1, 1) := by decide +kernel
theorem dL_law_378 : decode cL_law 378 = .ok (.aload_n 0, 1) := by decide +kernel
theorem dL_law_379 : decode cL_law 379 = .ok (.iload_n 3, 1) := by decide +kernel
theorem dL_law_380 : decode cL_law 380 = .ok (.iconst 1, 1) := by decide +kernel
theorem dL_law_381 : decode cL_law 381 = .ok (.iadd, 1) := by decide +kernel
theorem dL_law_382 : decode cL_law 382 = .ok (.iaload, 1) := by decide +kernel
theorem dL_law_383 : decode cL_law 383 = .ok (.aload_n 0, 1) := by decide +kernel
theorem dL_law_384 : decode cL_law 384 = .ok (.iload_n 3, 1) := by decide +kernel
theorem dL_law_385 : decode cL_law 385 = .ok (.iconst 2, 1) := by decide +kernel
theorem dL_law_386 : decode cL_law 386 = .ok (.iadd, 1) := by decide +kernel
theorem dL_law_387 : decode cL_law 387 = .ok (.iaload, 1) := by decide +kernel
theorem dL_law_388 : decode cL_law 388 = .ok (.invokevirtual 53, 3) := by decide +kernel
theorem dL_law_391 : decode cL_law 391 = .ok (.aload_n 2, 1) := by decide +kernel
theorem dL_law_392 : decode cL_law 392 = .ok (.aload_n 0, 1) := by decide +kernel
theorem dL_law_393 : decode cL_law 393 = .ok (.iload_n 3, 1) := by decide +kernel
theorem dL_law_394 : decode cL_law 394 = .ok (.iconst 1, 1) := by decide +kernel
theorem dL_law_395 : decode cL_law 395 = .ok (.iadd, 1) := by decide +kernel
theorem dL_law_396 : decode cL_law 396 = .ok (.iaload, 1) := by decide +kernel
theorem dL_law_397 : decode cL_law 397 = .ok (.aload_n 0, 1) := by decide +kernel
theorem dL_law_398 : decode cL_law 398 = .ok (.iload_n 3, 1) := by decide +kernel
theorem dL_law_399 : decode cL_law 399 = .ok (.iconst 2, 1) := by decide +kernel
theorem dL_law_400 : decode cL_law 400 = .ok (.iadd, 1) := by decide +kernel
theorem dL_law_401 : decode cL_law 401 = .ok (.iaload, 1) := by decide +kernel
theorem dL_law_402 : decode cL_law 402 = .ok (.invokevirtual 56, 3) := by decide +kernel
theorem dL_law_405 : decode cL_law 405 = .ok (.if_icmp .eq 84, 3) := by decide +kernel
theorem dL_law_408 : decode cL_law 408 = .ok (.iconst 0, 1) := by decide +kernel
theorem dL_law_409 : decode cL_law 409 = .ok (.ireturn, 1) := by decide +kernel
theorem dL_law_410 : decode cL_law 410 = .ok (.aload_n 1, 1) := by decide +kernel
theorem dL_law_411 : decode cL_law 411 = .ok (.aload_n 0, 1) := by decide +kernel
theorem dL_law_412 : decode cL_law 412 = .ok (.iload_n 3, 1) := by decide +kernel
theorem dL_law_413 : decode cL_law 413 = .ok (.iconst 1, 1) := by decide +kernel
theorem dL_law_414 : decode cL_law 414 = .ok (.iadd, 1) := by decide +kernel
theorem dL_law_415 : decode cL_law 415 = .ok (.iaload, 1) := by decide +kernel
theorem dL_law_416 : decode cL_law 416 = .ok (.invokevirtual 57, 3) := by decide +kernel
theorem dL_law_419 : decode cL_law 419 = .ok (.aload_n 2, 1) := by decide +kernel
theorem dL_law_420 : decode cL_law 420 = .ok (.aload_n 0, 1) := by decide +kernel
theorem dL_law_421 : decode cL_law 421 = .ok (.iload_n 3, 1) := by decide +kernel
theorem dL_law_422 : decode cL_law 422 = .ok (.iconst 1, 1) := by decide +kernel
theorem dL_law_423 : decode cL_law 423 = .ok (.iadd, 1) := by decide +kernel
theorem dL_law_424 : decode cL_law 424 = .ok (.iaload, 1) := by decide +kernel
theorem dL_law_425 : decode cL_law 425 = .ok (.invokevirtual 60, 3) := by decide +kernel
theorem dL_law_428 : decode cL_law 428 = .ok (.if_icmp .eq 61, 3) := by decide +kernel
theorem dL_law_431 : decode cL_law 431 = .ok (.iconst 0, 1) := by decide +kernel
theorem dL_law_432 : decode cL_law 432 = .ok (.ireturn, 1) := by decide +kernel
theorem dL_law_433 : decode cL_law 433 = .ok (.aload_n 1, 1) := by decide +kernel
theorem dL_law_434 : decode cL_law 434 = .ok (.aload_n 0, 1) := by decide +kernel
theorem dL_law_435 : decode cL_law 435 = .ok (.iload_n 3, 1) := by decide +kernel
theorem dL_law_436 : decode cL_law 436 = .ok (.iconst 1, 1) := by decide +kernel
theorem dL_law_437 : decode cL_law 437 = .ok (.iadd, 1) := by decide +kernel
theorem dL_law_438 : decode cL_law 438 = .ok (.iaload, 1) := by decide +kernel
theorem dL_law_439 : decode cL_law 439 = .ok (.invokevirtual 61, 3) := by decide +kernel
theorem dL_law_442 : decode cL_law 442 = .ok (.aload_n 2, 1) := by decide +kernel
theorem dL_law_443 : decode cL_law 443 = .ok (.aload_n 0, 1) := by decide +kernel
theorem dL_law_444 : decode cL_law 444 = .ok (.iload_n 3, 1) := by decide +kernel
theorem dL_law_445 : decode cL_law 445 = .ok (.iconst 1, 1) := by decide +kernel
theorem dL_law_446 : decode cL_law 446 = .ok (.iadd, 1) := by decide +kernel
theorem dL_law_447 : decode cL_law 447 = .ok (.iaload, 1) := by decide +kernel
theorem dL_law_448 : decode cL_law 448 = .ok (.invokevirtual 64, 3) := by decide +kernel
theorem dL_law_451 : decode cL_law 451 = .ok (.if_icmp .eq 38, 3) := by decide +kernel
theorem dL_law_454 : decode cL_law 454 = .ok (.iconst 0, 1) := by decide +kernel
theorem dL_law_455 : decode cL_law 455 = .ok (.ireturn, 1) := by decide +kernel
theorem dL_law_456 : decode cL_law 456 = .ok (.aload_n 1, 1) := by decide +kernel
theorem dL_law_457 : decode cL_law 457 = .ok (.aload_n 0, 1) := by decide +kernel
theorem dL_law_458 : decode cL_law 458 = .ok (.iload_n 3, 1) := by decide +kernel
theorem dL_law_459 : decode cL_law 459 = .ok (.iconst 1, 1) := by decide +kernel
theorem dL_law_460 : decode cL_law 460 = .ok (.iadd, 1) := by decide +kernel
theorem dL_law_461 : decode cL_law 461 = .ok (.iaload, 1) := by decide +kernel
theorem dL_law_462 : decode cL_law 462 = .ok (.aload_n 0, 1) := by decide +kernel
theorem dL_law_463 : decode cL_law 463 = .ok (.iload_n 3, 1) := by decide +kernel
theorem dL_law_464 : decode cL_law 464 = .ok (.iconst 2, 1) := by decide +kernel
theorem dL_law_465 : decode cL_law 465 = .ok (.iadd, 1) := by decide +kernel
theorem dL_law_466 : decode cL_law 466 = .ok (.iaload, 1) := by decide +kernel
theorem dL_law_467 : decode cL_law 467 = .ok (.invokevirtual 65, 3) := by decide +kernel
theorem dL_law_470 : decode cL_law 470 = .ok (.aload_n 2, 1) := by decide +kernel
theorem dL_law_471 : decode cL_law 471 = .ok (.aload_n 0, 1) := by decide +kernel
theorem dL_law_472 : decode cL_law 472 = .ok (.iload_n 3, 1) := by decide +kernel
theorem dL_law_473 : decode cL_law 473 = .ok (.iconst 1, 1) := by decide +kernel
theorem dL_law_474 : decode cL_law 474 = .ok (.iadd, 1) := by decide +kernel
theorem dL_law_475 : decode cL_law 475 = .ok (.iaload, 1) := by decide +kernel
theorem dL_law_476 : decode cL_law 476 = .ok (.aload_n 0, 1) := by decide +kernel
theorem dL_law_477 : decode cL_law 477 = .ok (.iload_n 3, 1) := by decide +kernel
theorem dL_law_478 : decode cL_law 478 = .ok (.iconst 2, 1) := by decide +kernel
theorem dL_law_479 : decode cL_law 479 = .ok (.iadd, 1) := by decide +kernel
theorem dL_law_480 : decode cL_law 480 = .ok (.iaload, 1) := by decide +kernel
theorem dL_law_481 : decode cL_law 481 = .ok (.invokevirtual 68, 3) := by decide +kernel
theorem dL_law_484 : decode cL_law 484 = .ok (.if_icmp .eq 5, 3) := by decide +kernel
theorem dL_law_487 : decode cL_law 487 = .ok (.iconst 0, 1) := by decide +kernel
theorem dL_law_488 : decode cL_law 488 = .ok (.ireturn, 1) := by decide +kernel
theorem dL_law_489 : decode cL_law 489 = .ok (.iinc 3 4, 3) := by decide +kernel
theorem dL_law_492 : decode cL_law 492 = .ok (.goto (-474), 3) := by decide +kernel
theorem dL_law_495 : decode cL_law 495 = .ok (.iconst 1, 1) := by decide +kernel
theorem dL_law_496 : decode cL_law 496 = .ok (.ireturn, 1) := by decide +kernel
end
section
/-! OWN ROWS: how numbers, bits and booleans are spelled; one row an instruction with numbers of the form nI k; contracts' shapes; calls -/
def cs_b (b : Bool) : Int32 := if b then 1 else 0
def cs_o (o : Option Nat) : Int32 := match o with
  | none => -5
  | some j => nI j
/-- bit i of a long -/
def cs_x (x : Int64) (i : Nat) : Bool := x.toBitVec.getLsbD i
/-- 1L << v, x >>> v -/
def cs_l (v : Nat) : Int64 := (1 : Int64) <<< ((nI v).toInt64 &&& 63)
def cs_r (x : Int64) (v : Nat) : Int64 := (x.toUInt64 >>> ((nI v).toInt64.toUInt64 &&& Int64.toUInt64 63)).toInt64
/-- how many below k -/
def cs_n (f : Nat → Bool) : Nat → Nat
  | 0 => 0
  | k + 1 => cs_n f k + (if f k then 1 else 0)
theorem cs_bt : cs_b true = 1 := rfl
theorem cs_bf : cs_b false = 0 := rfl
theorem cs_b0 {b : Bool} : cs_b b = 0 ↔ b = false := by cases b <;> decide
theorem cs_b1 {b : Bool} : ¬ cs_b b = 0 ↔ b = true := by cases b <;> decide
theorem cs_nz (b : Bool) : narrow .boolean (.int (cs_b b)) = .int (cs_b b) := by cases b <;> rfl
theorem cs_vz (b : Bool) : vp_nar .boolean (cs_b b) = cs_b b := by cases b <;> rfl
theorem cs_b_inj {a b : Bool} (h : cs_b a = cs_b b) : a = b := by
  cases a <;> cases b <;> first | rfl | exact absurd h (by decide)
theorem cs_x_or (x y : Int64) (i : Nat) : cs_x (x ||| y) i = (cs_x x i || cs_x y i) := by
  unfold cs_x
  rw [Int64.toBitVec_or, BitVec.getLsbD_or]
theorem cs_x_and (x y : Int64) (i : Nat) : cs_x (x &&& y) i = (cs_x x i && cs_x y i) := by
  unfold cs_x
  rw [Int64.toBitVec_and, BitVec.getLsbD_and]
theorem cs_x_not (x : Int64) {i : Nat} (hi : i < 64) : cs_x (x ^^^ (-1)) i = !cs_x x i := by
  have ha : (-1 : Int64).toBitVec = BitVec.allOnes 64 := by decide
  unfold cs_x
  rw [Int64.toBitVec_xor, ha, BitVec.getLsbD_xor, BitVec.getLsbD_allOnes]
  simp [hi]
theorem cs_x_big (x : Int64) {i : Nat} (hi : 64 ≤ i) : cs_x x i = false := by
  unfold cs_x
  exact BitVec.getLsbD_of_ge _ _ hi
theorem cs_x_0 (i : Nat) : cs_x 0 i = false := by
  unfold cs_x
  show (0#64).getLsbD i = false
  simp
theorem cs_x_lt {x : Int64} {i : Nat} (h : cs_x x i = true) : i < 64 := by
  rcases Nat.lt_or_ge i 64 with q | q
  · exact q
  · rw [cs_x_big x q] at h
    exact absurd h (by decide)
theorem cs_x_ext {x y : Int64} (h : ∀ i, i < 64 → cs_x x i = cs_x y i) : x = y := by
  apply Int64.toBitVec_inj.mp
  apply BitVec.eq_of_getLsbD_eq
  intro i hi
  exact h i hi
theorem cs_l_bv : ∀ v, v < 64 → (cs_l v).toBitVec = BitVec.twoPow 64 v := by decide +kernel
theorem cs_x_l {v : Nat} (hv : v < 64) (i : Nat) : cs_x (cs_l v) i = decide (i = v) := by
  unfold cs_x
  rw [cs_l_bv v hv, BitVec.getLsbD_twoPow]
  simp [hv, eq_comm]
theorem cs_r_cu : ∀ k, k < 64 → ((nI k).toInt64.toUInt64 &&& Int64.toUInt64 63).toNat = k := by decide +kernel
theorem cs_r1 (x : Int64) {v : Nat} (hv : v < 64) : (cs_r x v &&& 1) = 1 ↔ cs_x x v = true := by
  have e : (cs_r x v).toBitVec = x.toBitVec >>> v := by
    apply BitVec.eq_of_toNat_eq
    show (x.toUInt64 >>> _).toNat = _
    rw [UInt64.toNat_shiftRight, cs_r_cu v hv, Nat.mod_eq_of_lt hv, BitVec.toNat_ushiftRight]
    rfl
  unfold cs_x
  rw [← Int64.toBitVec_inj, Int64.toBitVec_and, e]
  show x.toBitVec >>> v &&& 1#64 = 1#64 ↔ _
  constructor
  · intro h
    have t := congrArg (fun x => x.getLsbD 0) h
    simpa using t
  · intro h
    apply BitVec.eq_of_getLsbD_eq
    intro i hi
    cases i with
    | zero => simp [h]
    | succ i => simp
/-! counts -/
theorem cs_n_s (f : Nat → Bool) (k : Nat) : cs_n f (k + 1) = cs_n f k + (if f k then 1 else 0) := rfl
theorem cs_n_t {f : Nat → Bool} {k : Nat} (h : f k = true) : cs_n f (k + 1) = cs_n f k + 1 := by rw [cs_n_s, h]; rfl
theorem cs_n_f {f : Nat → Bool} {k : Nat} (h : f k = false) : cs_n f (k + 1) = cs_n f k := by rw [cs_n_s, h]; rfl
theorem cs_n_le (f : Nat → Bool) : ∀ k, cs_n f k ≤ k
  | 0 => Nat.le_refl 0
  | k + 1 => by
    have := cs_n_le f k
    rw [cs_n_s]
    split <;> omega
theorem cs_n_congr {f g : Nat → Bool} : ∀ (k : Nat), (∀ j, j < k → f j = g j) → cs_n f k = cs_n g k
  | 0, _ => rfl
  | k + 1, h => by rw [cs_n_s, cs_n_s, cs_n_congr k (fun j hj => h j (by omega)), h k (by omega)]
theorem cs_n_0 {f : Nat → Bool} : ∀ (k : Nat), cs_n f k = 0 → ∀ j, j < k → f j = false
  | 0, _, j, hj => absurd hj (by omega)
  | k + 1, h, j, hj => by
    rw [cs_n_s] at h
    have h1 : cs_n f k = 0 := by omega
    have h2 : f k = false := by
      cases e : f k with
      | false => rfl
      | true => rw [e] at h; simp at h
    rcases Nat.lt_or_ge j k with q | q
    · exact cs_n_0 k h1 j q
    · have : j = k := by omega
      rw [this]; exact h2
theorem cs_n_z {f : Nat → Bool} : ∀ (k : Nat), (∀ j, j < k → f j = false) → cs_n f k = 0
  | 0, _ => rfl
  | k + 1, h => by rw [cs_n_f (h k (by omega)), cs_n_z k (fun j hj => h j (by omega))]
/-- one more -/
theorem cs_n_up {f g : Nat → Bool} {v : Nat} (hf : f v = false) (hg : ∀ j, g j = (f j || decide (j = v))) : ∀ (k : Nat), v < k → cs_n g k = cs_n f k + 1
  | 0, h => absurd h (by omega)
  | k + 1, h => by
    rcases Nat.lt_or_ge v k with q | q
    · have e : g k = f k := by rw [hg k]; simp [show ¬ k = v by omega]
      rw [cs_n_s, cs_n_s, cs_n_up hf hg k q, e]
      omega
    · have hk : v = k := by omega
      subst hk
      have e : g v = true := by rw [hg v]; simp
      have e2 : cs_n g v = cs_n f v := cs_n_congr v (fun j hj => by rw [hg j]; simp [show ¬ j = v by omega])
      rw [cs_n_t e, cs_n_f hf, e2]
theorem cs_n_ext {f : Nat → Bool} {a : Nat} : ∀ (k : Nat), (∀ j, a ≤ j → f j = false) → cs_n f (a + k) = cs_n f a
  | 0, _ => rfl
  | k + 1, h => by
    show cs_n f (a + k + 1) = _
    rw [cs_n_f (h _ (by omega)), cs_n_ext k h]
theorem cs_n_to {f : Nat → Bool} {a b : Nat} (hab : a ≤ b) (h : ∀ j, a ≤ j → f j = false) : cs_n f b = cs_n f a := by
  obtain ⟨k, rfl⟩ : ∃ k, b = a + k := ⟨b - a, by omega⟩
  exact cs_n_ext k h
/-! ints of three kinds -/
theorem cs_k3 (p : Int32) : (p < 0 ∨ ¬ p < 3) ∨ ∃ k : Nat, k < 3 ∧ p = nI k := by
  by_cases h : p < 0
  · exact Or.inl (Or.inl h)
  · by_cases h2 : p < 3
    · obtain ⟨j, hj, rfl⟩ := nI_of h
      exact Or.inr ⟨j, (nI_ltI (b := 3) hj (by decide)).mp h2, rfl⟩
    · exact Or.inl (Or.inr h2)
theorem cs_kn (p : Int32) {n : Nat} (hn : n < 2147483648) : (p < 0 ∨ ¬ p < nI n) ∨ ∃ k : Nat, k < n ∧ p = nI k := by
  by_cases h : p < 0
  · exact Or.inl (Or.inl h)
  · by_cases h2 : p < nI n
    · obtain ⟨j, hj, rfl⟩ := nI_of h
      exact Or.inr ⟨j, (nI_ltI hj hn).mp h2, rfl⟩
    · exact Or.inl (Or.inr h2)
theorem cs_inc (k : Nat) : nI k + Int32.ofInt 1 = nI (k + 1) := nI_1 k
theorem cs_o_neg {o : Option Nat} (h : o = none) : cs_o o < 0 := by subst h; decide
theorem cs_o_inj {a b : Option Nat} (ha : ∀ j, a = some j → j < 2147483648) (hb : ∀ j, b = some j → j < 2147483648) : cs_o a = cs_o b ↔ a = b := by
  constructor
  · intro h
    cases a with
    | none =>
      cases b with
      | none => rfl
      | some j =>
        have h1 : (-5 : Int32) = nI j := h
        exact absurd (by rw [← h1]; decide : nI j < 0) (nI_pos (hb j rfl))
    | some i =>
      cases b with
      | none =>
        have h1 : nI i = (-5 : Int32) := h
        exact absurd (by rw [h1]; decide : nI i < 0) (nI_pos (ha i rfl))
      | some j =>
        have h1 : nI i = nI j := h
        rw [(nI_eq (ha i rfl) (hb j rfl)).mp h1]
  · intro h
    rw [h]
theorem cs_upN (f : Nat → Nat) (k v : Nat) : upd (fun j => nI (f j)) k (nI v) = fun j => nI (va_up f k v j) := by
  funext j
  by_cases h : j = k
  · simp [upd, va_up, h]
  · simp [upd, va_up, h]
theorem cs_upB (f : Nat → Bool) (k : Nat) (v : Bool) : upd (fun j => cs_b (f j)) k (cs_b v) = fun j => cs_b (va_up f k v j) := by
  funext j
  by_cases h : j = k
  · simp [upd, va_up, h]
  · simp [upd, va_up, h]
theorem cs_upO (f : Nat → Option Nat) (k : Nat) (v : Option Nat) : upd (fun j => cs_o (f j)) k (cs_o v) = fun j => cs_o (va_up f k v j) := by
  funext j
  by_cases h : j = k
  · simp [upd, va_up, h]
  · simp [upd, va_up, h]
section CSR
variable {p : Program} {l : Launch} {e : Env} {R : Room} {s : State} {m : MethodId} {args : Array Value} {below : List Frame} {meth : Method} {c : Code} {H : Heap} {locs : List Loc} {cells slots : Nat} {Q : State → Prop}
variable {cc : ByteArray} {pc : Nat} {ls : Array Slot} {rest : List Value} {D : va_G} {cl : List vw_C} {A : Nat → Prop} {a : Nat} {tys : List (ClassId × FieldType)} {ws : va_W} {H0 : Heap}
/-- the top of the stack by another name -/
theorem cs_ti {x y : Int32} (h : x = y) (k : W p l e R s m args below meth c H locs cells slots Q (F0 m pc ls (.int y :: rest))) : W p l e R s m args below meth c H locs cells slots Q (F0 m pc ls (.int x :: rest)) := by
  subst h
  exact k
theorem cs_tl {x y : Int64} (h : x = y) (k : W p l e R s m args below meth c H locs cells slots Q (F0 m pc ls (.long y :: rest))) : W p l e R s m args below meth c H locs cells slots Q (F0 m pc ls (.long x :: rest)) := by
  subst h
  exact k
theorem cs_iadd (hexec : p.tables.exec = Jvm.exec) (hb : c.code = cc) {x y : Nat} (hdg : decode cc pc = .ok (.iadd, 1)) (k : W p l e R s m args below meth c H locs cells slots Q (F0 m (pc + 1) ls (.int (nI (x + y)) :: rest))) : W p l e R s m args below meth c H locs cells slots Q (F0 m pc ls (.int (nI y) :: .int (nI x) :: rest)) :=
  lv_iadd hexec hb hdg (cs_ti (nI_add x y) k)
theorem cs_imul (hexec : p.tables.exec = Jvm.exec) (hb : c.code = cc) {x y : Nat} (hdg : decode cc pc = .ok (.imul, 1)) (k : W p l e R s m args below meth c H locs cells slots Q (F0 m (pc + 1) ls (.int (nI (x * y)) :: rest))) : W p l e R s m args below meth c H locs cells slots Q (F0 m pc ls (.int (nI y) :: .int (nI x) :: rest)) :=
  lv_imul hexec hb hdg (cs_ti (pk_mul x y) k)
theorem cs_isub (hexec : p.tables.exec = Jvm.exec) (hb : c.code = cc) {x y : Nat} (h : y ≤ x) (hdg : decode cc pc = .ok (.isub, 1)) (k : W p l e R s m args below meth c H locs cells slots Q (F0 m (pc + 1) ls (.int (nI (x - y)) :: rest))) : W p l e R s m args below meth c H locs cells slots Q (F0 m pc ls (.int (nI y) :: .int (nI x) :: rest)) :=
  lv_isub hexec hb hdg (cs_ti (pk_sub h) k)
theorem cs_iald (hexec : p.tables.exec = Jvm.exec) (hb : c.code = cc) (hK : va_K D cl tys s) (hP : va_P D cl ws H) (q0 t0 : Nat) {cA : ClassId} {n : Nat} {f : Nat → Int32} (ha : ws[q0]? = some (a, .inl (cA, n, .inl f))) (ht : tys[t0]? = some (cA, .int)) {k : Nat} (hk : k < n) (hn : n < 2147483648) (hdg : decode cc pc = .ok (.iaload, 1))
    (kk : W p l e R s m args below meth c H locs cells slots Q (F0 m (pc + 1) ls (.int (f k) :: rest))) : W p l e R s m args below meth c H locs cells slots Q (F0 m pc ls (.int (nI k) :: .ref a :: rest)) := by
  refine va_iald hexec hb hK hP q0 t0 ha ht (vp_in_nI hk hn) hdg ?_
  rw [nI_clamp (Nat.lt_trans hk hn)]
  exact kk
theorem cs_zald (hexec : p.tables.exec = Jvm.exec) (hb : c.code = cc) (hK : va_K D cl tys s) (hP : va_P D cl ws H) (q0 t0 : Nat) {cA : ClassId} {n : Nat} {f : Nat → Int32} (ha : ws[q0]? = some (a, .inl (cA, n, .inl f))) (ht : tys[t0]? = some (cA, .boolean)) {k : Nat} (hk : k < n) (hn : n < 2147483648) (hdg : decode cc pc = .ok (.baload, 1))
    (kk : W p l e R s m args below meth c H locs cells slots Q (F0 m (pc + 1) ls (.int (f k) :: rest))) : W p l e R s m args below meth c H locs cells slots Q (F0 m pc ls (.int (nI k) :: .ref a :: rest)) := by
  refine va_zald hexec hb hK hP q0 t0 ha ht (vp_in_nI hk hn) hdg ?_
  rw [nI_clamp (Nat.lt_trans hk hn)]
  exact kk
theorem cs_lald (hexec : p.tables.exec = Jvm.exec) (hb : c.code = cc) (hK : va_K D cl tys s) (hP : va_P D cl ws H) (q0 t0 : Nat) {cA : ClassId} {n : Nat} {f : Nat → Int64} (ha : ws[q0]? = some (a, .inl (cA, n, .inr (.inl f)))) (ht : tys[t0]? = some (cA, .long)) {k : Nat} (hk : k < n) (hn : n < 2147483648) (hdg : decode cc pc = .ok (.laload, 1))
    (kk : W p l e R s m args below meth c H locs cells slots Q (F0 m (pc + 1) ls (.long (f k) :: rest))) : W p l e R s m args below meth c H locs cells slots Q (F0 m pc ls (.int (nI k) :: .ref a :: rest)) := by
  refine va_lald hexec hb hK hP q0 t0 ha ht (vp_in_nI hk hn) hdg ?_
  rw [nI_clamp (Nat.lt_trans hk hn)]
  exact kk
/-- a store of any int -/
theorem cs_iast (hexec : p.tables.exec = Jvm.exec) (hb : c.code = cc) (hK : va_K D cl tys s) (hP : va_P D cl ws H) (hD : va_D A ws) (hS : va_S A H0 H locs) (q0 t0 : Nat) {cA : ClassId} {n : Nat} {f : Nat → Int32} (ha : ws[q0]? = some (a, .inl (cA, n, .inl f))) (ht : tys[t0]? = some (cA, .int)) {k : Nat} {x : Int32} (hk : k < n) (hn : n < 2147483648) (hdg : decode cc pc = .ok (.iastore, 1))
    (kk : ∀ (H1 : Heap) (locs1 : List Loc), va_P D cl (ws.set q0 (a, .inl (cA, n, .inl (va_up f k x)))) H1 → va_D A (ws.set q0 (a, .inl (cA, n, .inl (va_up f k x)))) → va_S A H0 H1 locs1 → W p l e R s m args below meth c H1 locs1 cells slots Q (F0 m (pc + 1) ls rest)) : W p l e R s m args below meth c H locs cells slots Q (F0 m pc ls (.int x :: .int (nI k) :: .ref a :: rest)) := by
  refine va_iast hexec hb hK hP hD hS q0 t0 ha ht (vp_in_nI hk hn) hdg ?_
  rw [nI_clamp (Nat.lt_trans hk hn)]
  exact kk
/-- stores of numbers, optional numbers, booleans -/
theorem cs_iastN (hexec : p.tables.exec = Jvm.exec) (hb : c.code = cc) (hK : va_K D cl tys s) (hP : va_P D cl ws H) (hD : va_D A ws) (hS : va_S A H0 H locs) (q0 t0 : Nat) {cA : ClassId} {n : Nat} {f : Nat → Nat} (ha : ws[q0]? = some (a, .inl (cA, n, .inl (fun j => nI (f j))))) (ht : tys[t0]? = some (cA, .int)) {k x : Nat} (hk : k < n) (hn : n < 2147483648) (hdg : decode cc pc = .ok (.iastore, 1))
    (kk : ∀ (H1 : Heap) (locs1 : List Loc), va_P D cl (ws.set q0 (a, .inl (cA, n, .inl (fun j => nI (va_up f k x j))))) H1 → va_D A (ws.set q0 (a, .inl (cA, n, .inl (fun j => nI (va_up f k x j))))) → va_S A H0 H1 locs1 → W p l e R s m args below meth c H1 locs1 cells slots Q (F0 m (pc + 1) ls rest)) : W p l e R s m args below meth c H locs cells slots Q (F0 m pc ls (.int (nI x) :: .int (nI k) :: .ref a :: rest)) := by
  refine va_iast hexec hb hK hP hD hS q0 t0 ha ht (vp_in_nI hk hn) hdg ?_
  rw [nI_clamp (Nat.lt_trans hk hn), cs_upN]
  exact kk
theorem cs_iastO (hexec : p.tables.exec = Jvm.exec) (hb : c.code = cc) (hK : va_K D cl tys s) (hP : va_P D cl ws H) (hD : va_D A ws) (hS : va_S A H0 H locs) (q0 t0 : Nat) {cA : ClassId} {n : Nat} {f : Nat → Option Nat} (ha : ws[q0]? = some (a, .inl (cA, n, .inl (fun j => cs_o (f j))))) (ht : tys[t0]? = some (cA, .int)) {k : Nat} {x : Option Nat} (hk : k < n) (hn : n < 2147483648) (hdg : decode cc pc = .ok (.iastore, 1))
    (kk : ∀ (H1 : Heap) (locs1 : List Loc), va_P D cl (ws.set q0 (a, .inl (cA, n, .inl (fun j => cs_o (va_up f k x j))))) H1 → va_D A (ws.set q0 (a, .inl (cA, n, .inl (fun j => cs_o (va_up f k x j))))) → va_S A H0 H1 locs1 → W p l e R s m args below meth c H1 locs1 cells slots Q (F0 m (pc + 1) ls rest)) : W p l e R s m args below meth c H locs cells slots Q (F0 m pc ls (.int (cs_o x) :: .int (nI k) :: .ref a :: rest)) := by
  refine va_iast hexec hb hK hP hD hS q0 t0 ha ht (vp_in_nI hk hn) hdg ?_
  rw [nI_clamp (Nat.lt_trans hk hn), cs_upO]
  exact kk
theorem cs_zast (hexec : p.tables.exec = Jvm.exec) (hb : c.code = cc) (hK : va_K D cl tys s) (hP : va_P D cl ws H) (hD : va_D A ws) (hS : va_S A H0 H locs) (q0 t0 : Nat) {cA : ClassId} {n : Nat} {f : Nat → Bool} (ha : ws[q0]? = some (a, .inl (cA, n, .inl (fun j => cs_b (f j))))) (ht : tys[t0]? = some (cA, .boolean)) {k : Nat} {x : Bool} (hk : k < n) (hn : n < 2147483648) (hdg : decode cc pc = .ok (.bastore, 1))
    (kk : ∀ (H1 : Heap) (locs1 : List Loc), va_P D cl (ws.set q0 (a, .inl (cA, n, .inl (fun j => cs_b (va_up f k x j))))) H1 → va_D A (ws.set q0 (a, .inl (cA, n, .inl (fun j => cs_b (va_up f k x j))))) → va_S A H0 H1 locs1 → W p l e R s m args below meth c H1 locs1 cells slots Q (F0 m (pc + 1) ls rest)) : W p l e R s m args below meth c H locs cells slots Q (F0 m pc ls (.int (cs_b x) :: .int (nI k) :: .ref a :: rest)) := by
  refine va_zast hexec hb hK hP hD hS q0 t0 ha ht (vp_in_nI hk hn) hdg ?_
  rw [nI_clamp (Nat.lt_trans hk hn), cs_vz, cs_upB]
  exact kk
theorem cs_last (hexec : p.tables.exec = Jvm.exec) (hb : c.code = cc) (hK : va_K D cl tys s) (hP : va_P D cl ws H) (hD : va_D A ws) (hS : va_S A H0 H locs) (q0 t0 : Nat) {cA : ClassId} {n : Nat} {f : Nat → Int64} (ha : ws[q0]? = some (a, .inl (cA, n, .inr (.inl f)))) (ht : tys[t0]? = some (cA, .long)) {k : Nat} {x : Int64} (hk : k < n) (hn : n < 2147483648) (hdg : decode cc pc = .ok (.lastore, 1))
    (kk : ∀ (H1 : Heap) (locs1 : List Loc), va_P D cl (ws.set q0 (a, .inl (cA, n, .inr (.inl (va_up f k x))))) H1 → va_D A (ws.set q0 (a, .inl (cA, n, .inr (.inl (va_up f k x))))) → va_S A H0 H1 locs1 → W p l e R s m args below meth c H1 locs1 cells slots Q (F0 m (pc + 1) ls rest)) : W p l e R s m args below meth c H locs cells slots Q (F0 m pc ls (.long x :: .int (nI k) :: .ref a :: rest)) := by
  refine va_last hexec hb hK hP hD hS q0 t0 ha ht (vp_in_nI hk hn) hdg ?_
  rw [nI_clamp (Nat.lt_trans hk hn)]
  exact kk
/-! branches on numbers and booleans -/
theorem cs_jge (hexec : p.tables.exec = Jvm.exec) (hb : c.code = cc) {x y : Nat} {off : Int} {tgt : Nat} (hdg : decode cc pc = .ok (.if_icmp .ge off, 3)) (ht : (pc : Int) + off = (tgt : Int)) (hx : x < 2147483648) (hy : y < 2147483648)
    (kt : y ≤ x → W p l e R s m args below meth c H locs cells slots Q (F0 m tgt ls rest)) (kf : x < y → W p l e R s m args below meth c H locs cells slots Q (F0 m (pc + 3) ls rest)) : W p l e R s m args below meth c H locs cells slots Q (F0 m pc ls (.int (nI y) :: .int (nI x) :: rest)) :=
  lv_icmp_ge hexec hb hdg ht (fun h => kt ((nI_leI hy hx).mp h)) (fun h => kf (Nat.lt_of_not_le (fun q => h ((nI_leI hy hx).mpr q))))
theorem cs_jlt (hexec : p.tables.exec = Jvm.exec) (hb : c.code = cc) {x y : Nat} {off : Int} {tgt : Nat} (hdg : decode cc pc = .ok (.if_icmp .lt off, 3)) (ht : (pc : Int) + off = (tgt : Int)) (hx : x < 2147483648) (hy : y < 2147483648)
    (kt : x < y → W p l e R s m args below meth c H locs cells slots Q (F0 m tgt ls rest)) (kf : y ≤ x → W p l e R s m args below meth c H locs cells slots Q (F0 m (pc + 3) ls rest)) : W p l e R s m args below meth c H locs cells slots Q (F0 m pc ls (.int (nI y) :: .int (nI x) :: rest)) :=
  lv_icmp_lt hexec hb hdg ht (fun h => kt ((nI_ltI hx hy).mp h)) (fun h => kf (Nat.le_of_not_lt (fun q => h ((nI_ltI hx hy).mpr q))))
theorem cs_jle (hexec : p.tables.exec = Jvm.exec) (hb : c.code = cc) {x y : Nat} {off : Int} {tgt : Nat} (hdg : decode cc pc = .ok (.if_icmp .le off, 3)) (ht : (pc : Int) + off = (tgt : Int)) (hx : x < 2147483648) (hy : y < 2147483648)
    (kt : x ≤ y → W p l e R s m args below meth c H locs cells slots Q (F0 m tgt ls rest)) (kf : y < x → W p l e R s m args below meth c H locs cells slots Q (F0 m (pc + 3) ls rest)) : W p l e R s m args below meth c H locs cells slots Q (F0 m pc ls (.int (nI y) :: .int (nI x) :: rest)) :=
  lv_icmp_le hexec hb hdg ht (fun h => kt ((nI_leI hx hy).mp h)) (fun h => kf (Nat.lt_of_not_le (fun q => h ((nI_leI hx hy).mpr q))))
theorem cs_jne (hexec : p.tables.exec = Jvm.exec) (hb : c.code = cc) {x y : Nat} {off : Int} {tgt : Nat} (hdg : decode cc pc = .ok (.if_icmp .ne off, 3)) (ht : (pc : Int) + off = (tgt : Int)) (hx : x < 2147483648) (hy : y < 2147483648)
    (kt : ¬ x = y → W p l e R s m args below meth c H locs cells slots Q (F0 m tgt ls rest)) (kf : x = y → W p l e R s m args below meth c H locs cells slots Q (F0 m (pc + 3) ls rest)) : W p l e R s m args below meth c H locs cells slots Q (F0 m pc ls (.int (nI y) :: .int (nI x) :: rest)) :=
  lv_icmp_ne hexec hb hdg ht (fun h => kt (fun q => h (by rw [q]))) (fun h => kf ((nI_eq hx hy).mp h))
theorem cs_zeq (hexec : p.tables.exec = Jvm.exec) (hb : c.code = cc) {x : Bool} {off : Int} {tgt : Nat} (hdg : decode cc pc = .ok (.ifCond .eq off, 3)) (ht : (pc : Int) + off = (tgt : Int))
    (kt : x = false → W p l e R s m args below meth c H locs cells slots Q (F0 m tgt ls rest)) (kf : x = true → W p l e R s m args below meth c H locs cells slots Q (F0 m (pc + 3) ls rest)) : W p l e R s m args below meth c H locs cells slots Q (F0 m pc ls (.int (cs_b x) :: rest)) :=
  lv_if_eq hexec hb hdg ht (fun h => kt (cs_b0.mp h)) (fun h => kf (cs_b1.mp h))
theorem cs_zne (hexec : p.tables.exec = Jvm.exec) (hb : c.code = cc) {x : Bool} {off : Int} {tgt : Nat} (hdg : decode cc pc = .ok (.ifCond .ne off, 3)) (ht : (pc : Int) + off = (tgt : Int))
    (kt : x = true → W p l e R s m args below meth c H locs cells slots Q (F0 m tgt ls rest)) (kf : x = false → W p l e R s m args below meth c H locs cells slots Q (F0 m (pc + 3) ls rest)) : W p l e R s m args below meth c H locs cells slots Q (F0 m pc ls (.int (cs_b x) :: rest)) :=
  lv_if_ne hexec hb hdg ht (fun h => kt (cs_b1.mp h)) (fun h => kf (cs_b0.mp h))
end CSR
/-! THE SHAPES OF CONTRACTS: nothing old changes, an int is answered; a world w changes into one that 'post' names, with an int answered, or nothing -/
def cs_MR (l : Launch) (y : MethodName) (wy : List Cond) (rm : Room) (D : va_G) (cl : List vw_C) (w : va_W) (tys : List (ClassId × FieldType)) (As : List Value) (r : Int32) : Prop :=
  ∀ sz : Nat, Met l y wy rm (va_Pc As (fun U => U.heap.size = sz ∧ va_P D cl w U.heap ∧ va_K D cl tys U)) (va_Qi (fun (r' : Int32) (_ : Unit) => r' = r) (fun _ _ => True) (va_A [] sz)) 0 0 (va_A [] sz)
def cs_MW (l : Launch) (y : MethodName) (wy : List Cond) (rm : Room) (D : va_G) (cl : List vw_C) (w : va_W) (tys : List (ClassId × FieldType)) (As : List Value) (post : Int32 → va_W → Prop) : Prop :=
  ∀ sz : Nat, Met l y wy rm (va_Pc As (fun U => U.heap.size = sz ∧ va_P D cl w U.heap ∧ va_K D cl tys U ∧ va_D (fun _ => True) w)) (va_Qi post (fun w' t => va_P D cl w' t.heap ∧ va_D (va_A w sz) w') (va_A w sz)) 0 0 (va_A w sz)
def cs_MV (l : Launch) (y : MethodName) (wy : List Cond) (rm : Room) (D : va_G) (cl : List vw_C) (w : va_W) (tys : List (ClassId × FieldType)) (As : List Value) (post : va_W → Prop) : Prop :=
  ∀ sz : Nat, Met l y wy rm (va_Pc As (fun U => U.heap.size = sz ∧ va_P D cl w U.heap ∧ va_K D cl tys U ∧ va_D (fun _ => True) w)) (va_Qv post (fun w' t => va_P D cl w' t.heap ∧ va_D (va_A w sz) w') (va_A w sz)) 0 0 (va_A w sz)
theorem cs_A0 {sz q : Nat} (h : va_A [] sz q) : sz ≤ q := by
  rcases h with ⟨k, e, h⟩ | h
  · simp at h
  · exact h
section CSC
variable {p : Program} {l : Launch} {e : Env} {R : Room} {s : State} {m : MethodId} {args : Array Value} {below : List Frame} {meth : Method} {c : Code} {H : Heap} {locs : List Loc} {cells slots : Nat} {Q : State → Prop}
variable {cc : ByteArray} {pc : Nat} {ls : Array Slot} {rest : List Value} {D : va_G} {cl : List vw_C} {A : Nat → Prop} {tys : List (ClassId × FieldType)} {ws w : va_W} {H0 : Heap}
variable {y : MethodName} {wy : List Cond} {rm : Room} {bytes : ByteArray} {maxL nL n index : Nat} {ret : Option FieldType} {Ts : List Cond} {own C : String} {b : Nat} {As st0 : List Value} {r : Int32}
/-- a static method that changes nothing -/
theorem cs_callRS (S : CallFix p m c cc nL s args Ts own) (hM : cs_MR l y wy rm D cl w tys As r) (cw : CallB R s args own index y bytes maxL ret wy rm 0 0 n ∧ (Cond.static y).before args s = true)
    (hw : va_P D cl w H) (hK : va_K D cl tys s) (hP : va_P D cl ws H) (hS : va_S A H0 H locs) (hA : ∀ q, H0.size ≤ q → A q) (hn : As.length = n) (hsize : ls.size = nL) (hst : st0 = As.reverse ++ rest) (hW : (rest.map fun v => v.category).sum ≤ 8) (hdg : decode cc pc = .ok (.invokestatic index, 3)) (hf : cells ≤ R.cells ∧ slots ≤ R.slots)
    (kk : ∀ (H1 : Heap) (locs1 : List Loc), va_P D cl ws H1 → va_S A H0 H1 locs1 → W p l e R s m args below meth c H1 locs1 cells slots Q (F0 m (pc + 3) ls (.int r :: rest))) : W p l e R s m args below meth c H locs cells slots Q (F0 m pc ls st0) := by
  subst hst
  refine va_calli (va_runS (As := As) (rest := rest) S (hM H.size) cw ⟨?_, ?_⟩ rfl hn hsize rfl (lv_room hW) hdg hf) hS ?_ ?_ ?_
  · intro a U g mk q
    obtain ⟨q0, q1, qP, qK⟩ := q
    exact ⟨q0, q1, qP, va_K.moved (u := U) (U := U.calling g mk a) (Vm.Alike.refl U.vm) qK⟩
  · intro U hU hW
    exact ⟨rfl, by rw [hU], by rw [hU]; exact hw, va_K.moved hW.alike hK⟩
  · intro q h1 h2
    exact absurd (cs_A0 h2) (by omega)
  · intro q h
    exact hA q (Nat.le_trans hS.1 (cs_A0 h))
  · intro r' u t H1 locs1 ht hvm hr hB hz hk hS1
    cases hr
    exact kk H1 locs1 (hP.kept (fun k q hq => hk q.1 (hP k q hq).lt (fun h => absurd (cs_A0 h) (Nat.not_le.mpr (hP k q hq).lt)))) hS1
/-- an object's method that changes nothing -/
theorem cs_callRV (S : CallFix p m c cc nL s args Ts own) (hM : cs_MR l y wy rm D cl w tys (.ref b :: As) r) (cw : CallW R s args own C index y bytes maxL ret wy rm 0 0 n)
    (hrec : ∃ cell : Cell, H[b]? = some cell ∧ cell.vm.isStatics = false ∧ s.vm.findClass C = some cell.cls)
    (hw : va_P D cl w H) (hK : va_K D cl tys s) (hP : va_P D cl ws H) (hS : va_S A H0 H locs) (hA : ∀ q, H0.size ≤ q → A q) (hn : As.length = n) (hsize : ls.size = nL) (hst : st0 = As.reverse ++ .ref b :: rest) (hW : (rest.map fun v => v.category).sum ≤ 8) (hdg : decode cc pc = .ok (.invokevirtual index, 3)) (hf : cells ≤ R.cells ∧ slots ≤ R.slots)
    (kk : ∀ (H1 : Heap) (locs1 : List Loc), va_P D cl ws H1 → va_S A H0 H1 locs1 → W p l e R s m args below meth c H1 locs1 cells slots Q (F0 m (pc + 3) ls (.int r :: rest))) : W p l e R s m args below meth c H locs cells slots Q (F0 m pc ls st0) := by
  subst hst
  refine va_calli (va_runV (As := As) (rest := rest) S (hM H.size) cw ⟨?_, hrec, ?_⟩ rfl hn hsize rfl (lv_room hW) hdg hf) hS ?_ ?_ ?_
  · intro a U g mk q
    obtain ⟨q0, q1, qP, qK⟩ := q
    exact ⟨q0, q1, qP, va_K.moved (u := U) (U := U.calling g mk a) (Vm.Alike.refl U.vm) qK⟩
  · intro U hU hW
    exact ⟨rfl, by rw [hU], by rw [hU]; exact hw, va_K.moved hW.alike hK⟩
  · intro q h1 h2
    exact absurd (cs_A0 h2) (by omega)
  · intro q h
    exact hA q (Nat.le_trans hS.1 (cs_A0 h))
  · intro r' u t H1 locs1 ht hvm hr hB hz hk hS1
    cases hr
    exact kk H1 locs1 (hP.kept (fun k q hq => hk q.1 (hP k q hq).lt (fun h => absurd (cs_A0 h) (Nat.not_le.mpr (hP k q hq).lt)))) hS1
/-- an object's method that changes the caller's whole world; it answers an int -/
theorem cs_callWV {post : Int32 → va_W → Prop} (S : CallFix p m c cc nL s args Ts own) (hM : cs_MW l y wy rm D cl w tys (.ref b :: As) post) (cw : CallW R s args own C index y bytes maxL ret wy rm 0 0 n)
    (hrec : ∃ cell : Cell, H[b]? = some cell ∧ cell.vm.isStatics = false ∧ s.vm.findClass C = some cell.cls)
    (hK : va_K D cl tys s) (hP : va_P D cl w H) (hD : va_D A w) (hS : va_S A H0 H locs) (hA : ∀ q, H0.size ≤ q → A q) (hn : As.length = n) (hsize : ls.size = nL) (hst : st0 = As.reverse ++ .ref b :: rest) (hW : (rest.map fun v => v.category).sum ≤ 8) (hdg : decode cc pc = .ok (.invokevirtual index, 3)) (hf : cells ≤ R.cells ∧ slots ≤ R.slots)
    (kk : ∀ (r : Int32) (w' : va_W) (H1 : Heap) (locs1 : List Loc), post r w' → va_P D cl w' H1 → va_D A w' → va_S A H0 H1 locs1 → W p l e R s m args below meth c H1 locs1 cells slots Q (F0 m (pc + 3) ls (.int r :: rest))) : W p l e R s m args below meth c H locs cells slots Q (F0 m pc ls st0) := by
  subst hst
  have hF : ∀ q, va_A w H.size q → A q := by
    intro q h
    rcases h with ⟨k, e, h⟩ | h
    · exact hD.2 k _ h
    · exact hA q (Nat.le_trans hS.1 h)
  refine va_calli (va_runV (As := As) (rest := rest) S (hM H.size) cw ⟨?_, hrec, ?_⟩ rfl hn hsize rfl (lv_room hW) hdg hf) hS ?_ ?_ ?_
  · intro a U g mk q
    obtain ⟨q0, q1, qP, qK, qD⟩ := q
    exact ⟨q0, q1, qP, va_K.moved (u := U) (U := U.calling g mk a) (Vm.Alike.refl U.vm) qK, qD⟩
  · intro U hU hW
    exact ⟨rfl, by rw [hU], by rw [hU]; exact hP, va_K.moved hW.alike hK, hD.weaken (fun _ _ _ _ => trivial)⟩
  · intro q h1 h2
    exact hF q h2
  · intro q h
    exact hF q h
  · intro r' u t H1 locs1 ht hvm hr hB hz hk hS1
    obtain ⟨hB1, hB2⟩ := hB
    rw [ht] at hB1
    exact kk r' u H1 locs1 hr hB1 (hB2.weaken (fun k q _ h => hF q.1 h)) hS1
/-- the same, with no answer -/
theorem cs_callVV {post : va_W → Prop} (S : CallFix p m c cc nL s args Ts own) (hM : cs_MV l y wy rm D cl w tys (.ref b :: As) post) (cw : CallW R s args own C index y bytes maxL ret wy rm 0 0 n)
    (hrec : ∃ cell : Cell, H[b]? = some cell ∧ cell.vm.isStatics = false ∧ s.vm.findClass C = some cell.cls)
    (hK : va_K D cl tys s) (hP : va_P D cl w H) (hD : va_D A w) (hS : va_S A H0 H locs) (hA : ∀ q, H0.size ≤ q → A q) (hn : As.length = n) (hsize : ls.size = nL) (hst : st0 = As.reverse ++ .ref b :: rest) (hW : (rest.map fun v => v.category).sum ≤ 8) (hdg : decode cc pc = .ok (.invokevirtual index, 3)) (hf : cells ≤ R.cells ∧ slots ≤ R.slots)
    (kk : ∀ (w' : va_W) (H1 : Heap) (locs1 : List Loc), post w' → va_P D cl w' H1 → va_D A w' → va_S A H0 H1 locs1 → W p l e R s m args below meth c H1 locs1 cells slots Q (F0 m (pc + 3) ls rest)) : W p l e R s m args below meth c H locs cells slots Q (F0 m pc ls st0) := by
  subst hst
  have hF : ∀ q, va_A w H.size q → A q := by
    intro q h
    rcases h with ⟨k, e, h⟩ | h
    · exact hD.2 k _ h
    · exact hA q (Nat.le_trans hS.1 h)
  refine va_callv (va_runV (As := As) (rest := rest) S (hM H.size) cw ⟨?_, hrec, ?_⟩ rfl hn hsize rfl (lv_room hW) hdg hf) hS ?_ ?_ ?_
  · intro a U g mk q
    obtain ⟨q0, q1, qP, qK, qD⟩ := q
    exact ⟨q0, q1, qP, va_K.moved (u := U) (U := U.calling g mk a) (Vm.Alike.refl U.vm) qK, qD⟩
  · intro U hU hW
    exact ⟨rfl, by rw [hU], by rw [hU]; exact hP, va_K.moved hW.alike hK, hD.weaken (fun _ _ _ _ => trivial)⟩
  · intro q h1 h2
    exact hF q h2
  · intro q h
    exact hF q h
  · intro u t H1 locs1 ht hvm hr hB hz hk hS1
    obtain ⟨hB1, hB2⟩ := hB
    rw [ht] at hB1
    exact kk u H1 locs1 hr hB1 (hB2.weaken (fun k q _ h => hF q.1 h)) hS1
end CSC
theorem cs_MW.mono {l : Launch} {y : MethodName} {wy : List Cond} {rm : Room} {D : va_G} {cl : List vw_C} {w : va_W} {tys : List (ClassId × FieldType)} {As : List Value} {post post' : Int32 → va_W → Prop} (h : cs_MW l y wy rm D cl w tys As post) (hp : ∀ r w', post r w' → post' r w') : cs_MW l y wy rm D cl w tys As post' := by
  intro sz p e ha hc hk s m args below hf hsp hP hx
  obtain ⟨k, o, h1, h2, h3, ⟨⟨r, u, q1, q2, q3⟩, hF⟩, hL⟩ := h sz p e ha hc hk s m args below hf hsp hP hx
  exact ⟨k, o, h1, h2, h3, ⟨⟨r, u, q1, hp r u q2, q3⟩, hF⟩, hL⟩
/-! THE TWO WORLDS -/
/-- a CausalStore: versions n; key, value, stamp, dependencies; come, shown, lacks, best by centre; place, seen set, seen stamp by client; the chain and its length -/
abbrev cs_wX (ad : Nat → Nat) (cI cJ : ClassId) (n : Nat) (ky : Nat → Nat) (vl sp : Nat → Int32) (dp cm sh : Nat → Int64) (lk : Nat → Int32) (bs : Nat → Option Nat) (pl : Nat → Nat) (ss : Nat → Int64) (st : Nat → Int32) (ch : Nat → Nat) (cd : Nat) : va_W :=
  [(ad 0, .inr (0, [.int (nI n), .ref (ad 1), .ref (ad 2), .ref (ad 3), .ref (ad 4), .ref (ad 5), .ref (ad 6), .ref (ad 7), .ref (ad 8), .ref (ad 9), .ref (ad 10), .ref (ad 11), .ref (ad 12), .int (nI cd)])),
   (ad 1, .inl (cI, 40, .inl (fun j => nI (ky j)))), (ad 2, .inl (cI, 40, .inl vl)), (ad 3, .inl (cI, 40, .inl sp)), (ad 4, .inl (cJ, 40, .inr (.inl dp))), (ad 5, .inl (cJ, 3, .inr (.inl cm))), (ad 6, .inl (cJ, 3, .inr (.inl sh))),
   (ad 7, .inl (cI, 120, .inl lk)), (ad 8, .inl (cI, 18, .inl (fun j => cs_o (bs j)))), (ad 9, .inl (cI, 3, .inl (fun j => nI (pl j)))), (ad 10, .inl (cJ, 3, .inr (.inl ss))), (ad 11, .inl (cI, 3, .inl st)), (ad 12, .inl (cI, 40, .inl (fun j => nI (ch j))))]
/-- a CausalStoreModel: versions n; key, value, stamp; needs; come; has seen; place; shown -/
abbrev cs_wM (ad : Nat → Nat) (cI cZ : ClassId) (n : Nat) (ky : Nat → Nat) (vl sp : Nat → Int32) (nd cm hs : Nat → Bool) (pl : Nat → Nat) (sh : Nat → Bool) : va_W :=
  [(ad 0, .inr (1, [.int (nI n), .ref (ad 1), .ref (ad 2), .ref (ad 3), .ref (ad 4), .ref (ad 5), .ref (ad 6), .ref (ad 7), .ref (ad 8)])),
   (ad 1, .inl (cI, 40, .inl (fun j => nI (ky j)))), (ad 2, .inl (cI, 40, .inl vl)), (ad 3, .inl (cI, 40, .inl sp)), (ad 4, .inl (cZ, 1600, .inl (fun j => cs_b (nd j)))), (ad 5, .inl (cZ, 120, .inl (fun j => cs_b (cm j)))), (ad 6, .inl (cZ, 120, .inl (fun j => cs_b (hs j)))),
   (ad 7, .inl (cI, 3, .inl (fun j => nI (pl j)))), (ad 8, .inl (cZ, 40, .inl (fun j => cs_b (sh j))))]
abbrev cs_tX (cI cJ : ClassId) : List (ClassId × FieldType) := [(cI, .int), (cJ, .long)]
abbrev cs_tM (cI cZ : ClassId) : List (ClassId × FieldType) := [(cI, .int), (cZ, .boolean)]
end
section
/-! what the small methods compute, in plain words -/
theorem cs_P0 {D : va_G} {cl : List vw_C} {H : Heap} : va_P D cl [] H := fun k q h => by simp at h
theorem cs_hast {x : Int64} {v : Nat} (hv : v < 64) (h : lg_cmp (cs_r x v &&& 1) 1 = 0) : cs_x x v = true := (cs_r1 x hv).mp ((lg_cmp_eq _ _).mp h)
theorem cs_hasf {x : Int64} {v : Nat} (hv : v < 64) (h : ¬ lg_cmp (cs_r x v &&& 1) 1 = 0) : cs_x x v = false := by
  cases e9 : cs_x x v with
  | false => rfl
  | true => exact absurd ((lg_cmp_eq _ _).mpr ((cs_r1 x hv).mpr e9)) h
/-- no client, no centre; no version; no key -/
def cs_bad (p : Int32) : Bool := decide (p < 0 ∨ ¬ p < 3)
def cs_nv (n : Nat) (p : Int32) : Bool := decide (p < 0 ∨ ¬ p < nI n)
def cs_nk (p : Int32) : Bool := decide (p < 0 ∨ ¬ p < 6)
theorem cs_bad_t {p : Int32} (h : p < 0 ∨ ¬ p < 3) : cs_bad p = true := decide_eq_true h
theorem cs_bad_f {p : Int32} (h1 : ¬ p < 0) (h2 : p < 3) : cs_bad p = false := decide_eq_false (fun q => q.elim h1 (fun z => z h2))
theorem cs_bad_k : ∀ k, k < 3 → cs_bad (nI k) = false := by decide +kernel
theorem cs_nv_t {n : Nat} {p : Int32} (h : p < 0 ∨ ¬ p < nI n) : cs_nv n p = true := decide_eq_true h
theorem cs_nv_f {n : Nat} {p : Int32} (h1 : ¬ p < 0) (h2 : p < nI n) : cs_nv n p = false := decide_eq_false (fun q => q.elim h1 (fun z => z h2))
theorem cs_nv_k {n k : Nat} (hk : k < n) (hn : n < 2147483648) : cs_nv n (nI k) = false := cs_nv_f (nI_pos (Nat.lt_trans hk hn)) (nI_lt hk hn)
theorem cs_nk_t {p : Int32} (h : p < 0 ∨ ¬ p < 6) : cs_nk p = true := decide_eq_true h
theorem cs_nk_f {p : Int32} (h1 : ¬ p < 0) (h2 : p < 6) : cs_nk p = false := decide_eq_false (fun q => q.elim h1 (fun z => z h2))
theorem cs_nk_k : ∀ k, k < 6 → cs_nk (nI k) = false := by decide +kernel
theorem cs_le2 {p : Int32} : p ≤ nI 2 ↔ p < 3 := by
  rw [Int32.le_iff_toInt_le, Int32.lt_iff_toInt_lt]
  have h1 : (nI 2).toInt = 2 := by decide
  have h2 : (3 : Int32).toInt = 3 := by decide
  omega
theorem cs_nlt {p q : Int32} : ¬ q ≤ p ↔ p < q := by
  rw [Int32.le_iff_toInt_le, Int32.lt_iff_toInt_lt]
  omega
theorem cs_nle {p q : Int32} : ¬ p < q ↔ q ≤ p := by
  rw [Int32.le_iff_toInt_le, Int32.lt_iff_toInt_lt]
  omega
/-- version v beats the winner o -/
def cs_beat (sp : Nat → Int32) (v : Nat) (o : Option Nat) : Bool := match o with
  | none => true
  | some w => if sp v = sp w then decide (w < v) else decide (sp w < sp v)
theorem cs_beat_e {sp : Nat → Int32} {v w : Nat} (h : sp v = sp w) : cs_beat sp v (some w) = decide (w < v) := by
  show (if sp v = sp w then _ else _) = _
  rw [if_pos h]
theorem cs_beat_n {sp : Nat → Int32} {v w : Nat} (h : ¬ sp v = sp w) : cs_beat sp v (some w) = decide (sp w < sp v) := by
  show (if sp v = sp w then _ else _) = _
  rw [if_neg h]
/-- lacks, chain, its length -/
abbrev cs_T3 : Type := (Nat → Int32) × (Nat → Nat) × Nat
def cs_low (q w : Nat) (t : cs_T3) : cs_T3 := if t.1 q - 1 = 0 then (va_up t.1 q (t.1 q - 1), va_up t.2.1 t.2.2 w, t.2.2 + 1) else (va_up t.1 q (t.1 q - 1), t.2.1, t.2.2)
theorem cs_low_t {q w : Nat} {t : cs_T3} (h : t.1 q - 1 = 0) : cs_low q w t = (va_up t.1 q (t.1 q - 1), va_up t.2.1 t.2.2 w, t.2.2 + 1) := if_pos h
theorem cs_low_f {q w : Nat} {t : cs_T3} (h : ¬ t.1 q - 1 = 0) : cs_low q w t = (va_up t.1 q (t.1 q - 1), t.2.1, t.2.2) := if_neg h
/-- version w waits for v: it has come, isn't shown, depends on v -/
def cs_wt (C S : Int64) (dp : Nat → Int64) (v w : Nat) : Bool := cs_x C w && (!cs_x S w && cs_x (dp w) v)
/-- the loop of 'show' -/
def cs_sl (C S : Int64) (dp : Nat → Int64) (z v : Nat) (t : cs_T3) : Nat → cs_T3
  | 0 => t
  | k + 1 => if cs_wt C S dp v k then cs_low (z * 40 + k) k (cs_sl C S dp z v t k) else cs_sl C S dp z v t k
theorem cs_sl_t {C S : Int64} {dp : Nat → Int64} {z v : Nat} {t : cs_T3} {k : Nat} (h : cs_wt C S dp v k = true) : cs_sl C S dp z v t (k + 1) = cs_low (z * 40 + k) k (cs_sl C S dp z v t k) := by
  show (if cs_wt C S dp v k = true then _ else _) = _
  rw [if_pos h]
theorem cs_sl_f {C S : Int64} {dp : Nat → Int64} {z v : Nat} {t : cs_T3} {k : Nat} (h : cs_wt C S dp v k = false) : cs_sl C S dp z v t (k + 1) = cs_sl C S dp z v t k := by
  show (if cs_wt C S dp v k = true then _ else _) = _
  rw [if_neg (by rw [h]; decide)]
/-- the winners behind 'show' -/
def cs_bu (sp : Nat → Int32) (q v : Nat) (bs : Nat → Option Nat) : Nat → Option Nat := if cs_beat sp v (bs q) then va_up bs q (some v) else bs
theorem cs_bu_t {sp : Nat → Int32} {q v : Nat} {bs : Nat → Option Nat} (h : cs_beat sp v (bs q) = true) : cs_bu sp q v bs = va_up bs q (some v) := if_pos h
theorem cs_bu_f {sp : Nat → Int32} {q v : Nat} {bs : Nat → Option Nat} (h : cs_beat sp v (bs q) = false) : cs_bu sp q v bs = bs := if_neg (by rw [h]; decide)
/-- the seen stamps behind 'see' -/
def cs_su (st : Nat → Int32) (u : Nat) (x : Int32) : Nat → Int32 := if st u < x then va_up st u x else st
theorem cs_su_t {st : Nat → Int32} {u : Nat} {x : Int32} (h : st u < x) : cs_su st u x = va_up st u x := if_pos h
theorem cs_su_f {st : Nat → Int32} {u : Nat} {x : Int32} (h : ¬ st u < x) : cs_su st u x = st := if_neg h
end
section
set_option maxHeartbeats 4000000 in
set_option maxRecDepth 100000 in
/-- has: the bit -/
theorem cs_has (l : Launch) (D : va_G) {tys : List (ClassId × FieldType)} (x : Int64) (v : Nat) (hv : v < 64) : cs_MR l yX0_has (ws_ yX0_has cX0_has 3 (some .boolean)) ({ frames := 0, cells := 0, slots := 0, locals := 0 }) D vwCl [] tys [.long x, .int (nI v)] (cs_b (cs_x x v)) := by
  intro sz
  refine Met.ofW (cc := cX0_has) (maxL := 3) (ret := (some .boolean)) (by decide) rfl ?_
  intro p e s m args below meth c s₁ B hml hv9
  obtain ⟨rfl, hsz, hP, hK⟩ := hv9
  have hx := B.exec
  have hb := B.bytes
  have hr := B.returns
  have hts := atoms_spec (ws := (ws_ yX0_has cX0_has 3 (some .boolean))) B.pre
  have hts : ∀ w ∈ lw_all, w.before _ s = true := fun w h => hts w (List.mem_cons_of_mem _ h)
  have hown : s.vm.findClass RX0 = some m.cls := findClass_of_methodNamed B.named
  have hlocks := B.notSynchronized
  subst hsz
  generalize hAe : va_A [] s.heap.size = A
  have hA : ∀ q : Nat, s.heap.size ≤ q → A q := fun q h => by rw [← hAe]; exact Or.inr h
  have hS : va_S A s.heap s.heap [] := va_S.rf
  have hl := lv_entry ([.long x, .int (nI v)]) (n := 3) (Nat.le_of_ble_eq_true rfl)
  rw [lg_entry_eq]
  generalize (lg_sl ([.long x, .int (nI v)]) ++ List.replicate (3 - (lg_sl ([.long x, .int (nI v)])).length) Slot.unset).toArray = ls at hl ⊢
  have hl : lv_has ls 3 [(0, .long x), (2, .int (nI v))] := hl
  refine lv_lload_n hx hb dX0_has_0 rfl (lv_at hl 0 rfl) ?_
  refine lv_iload_n hx hb dX0_has_1 rfl (lv_at hl 1 rfl) ?_
  refine lv_lushr (v := cs_r x v) hx hb dX0_has_2 rfl ?_
  refine lv_lconst (v := 1) hx hb dX0_has_3 (by decide) ?_
  refine lv_land hx hb dX0_has_4 ?_
  refine lv_lconst (v := 1) hx hb dX0_has_5 (by decide) ?_
  refine W.lcmp hx hb dX0_has_6 ?_
  refine lv_if_ne (tgt := 14) hx hb dX0_has_7 (by decide) (fun h => ?_) (fun h => ?_)
  · have h := cs_hasf hv h
    refine lv_iconst (v := cs_b false) hx hb dX0_has_14 (by decide) ?_
    exact W.zret (v := (cs_b false)) hx hb hr (cs_nz _) (fun t ht hW => ⟨⟨(cs_b false), (), rfl, by rw [h], trivial⟩, hS.F ht⟩) hS.2.2 dX0_has_15
  · have h := cs_hast hv h
    refine lv_iconst (v := cs_b true) hx hb dX0_has_10 (by decide) ?_
    refine lv_goto (tgt := 15) hx hb dX0_has_11 (by decide) ?_
    exact W.zret (v := (cs_b true)) hx hb hr (cs_nz _) (fun t ht hW => ⟨⟨(cs_b true), (), rfl, by rw [h], trivial⟩, hS.F ht⟩) hS.2.2 dX0_has_15

set_option maxHeartbeats 4000000 in
set_option maxRecDepth 100000 in
theorem cs_bits_loop {p : Program} {l : Launch} {e : Env} {R : Room} {s : State} {m : MethodId} {args : Array Value} {below : List Frame} {meth : Method} {c : Code} {Q : State → Prop} {D : va_G} {A : Nat → Prop} {H0 : Heap} (hx : p.tables.exec = Jvm.exec) (hb : c.code = cX0_bits) (hml : c.maxLocals = 4) (hown : s.vm.findClass RX0 = some m.cls) (hts : ∀ w ∈ lw_all, w.before args s = true) (hA : ∀ q : Nat, H0.size ≤ q → A q) (hR : 0 ≤ R.frames ∧ 0 ≤ R.locals) {H : Heap} {locs : List Loc} (x : Int64) (hend : ∀ ls, lv_has ls 4 [(0, .long x), (2, .int (nI (cs_n (cs_x x) 40))), (3, .int (nI 40))] → W p l e R s m args below meth c H locs 0 0 Q (F0 m 29 ls [])) :
    ∀ (k i : Nat), i + k = 40 → ∀ ls : Array Slot, lv_has ls 4 [(0, .long x), (2, .int (nI (cs_n (cs_x x) i))), (3, .int (nI i))] → W p l e R s m args below meth c H locs 0 0 Q (F0 m 4 ls []) := by
  intro k
  induction k with
  | zero =>
    intro i hi ls hl
    refine lv_iload_n hx hb dX0_bits_4 rfl (lv_at hl 2 rfl) ?_
    refine lv_bipush (v := nI 40) hx hb dX0_bits_5 (by decide) ?_
    refine cs_jge (tgt := 29) hx hb dX0_bits_7 (by decide) (by omega) (by omega) (fun h => ?_) (fun h => absurd h (by omega))
    have hi : i = 40 := by omega
    subst hi
    exact hend ls hl
  | succ k ih =>
    intro i hi ls hl
    refine lv_iload_n hx hb dX0_bits_4 rfl (lv_at hl 2 rfl) ?_
    refine lv_bipush (v := nI 40) hx hb dX0_bits_5 (by decide) ?_
    refine cs_jge (tgt := 29) hx hb dX0_bits_7 (by decide) (by omega) (by omega) (fun h => absurd h (by omega)) (fun h => ?_)
    have h64 : i < 64 := by omega
    refine lv_lload_n hx hb dX0_bits_10 rfl (lv_at hl 0 rfl) ?_
    refine lv_iload_n hx hb dX0_bits_11 rfl (lv_at hl 2 rfl) ?_
    refine lv_lushr (v := cs_r x i) hx hb dX0_bits_12 rfl ?_
    refine lv_lconst (v := 1) hx hb dX0_bits_13 (by decide) ?_
    refine lv_land hx hb dX0_bits_14 ?_
    refine lv_lconst (v := 1) hx hb dX0_bits_15 (by decide) ?_
    refine W.lcmp hx hb dX0_bits_16 ?_
    refine lv_if_ne (tgt := 23) hx hb dX0_bits_17 (by decide) (fun h => ?_) (fun h => ?_)
    · have h := cs_hasf h64 h
      refine lv_iinc (v := nI (i + 1)) (lv' := [(3, .int (nI (i + 1))), (0, .long x), (2, .int (nI (cs_n (cs_x x) i)))]) hx hb dX0_bits_23 hl (k := 2) rfl (cs_inc _) (by decide) rfl (fun ls hl => ?_)
      refine lv_goto (tgt := 4) hx hb dX0_bits_26 (by decide) ?_
      exact ih (i + 1) (by omega) ls (by rw [cs_n_f h]; exact lv_sub hl [1, 2, 0] rfl)
    · have h := cs_hast h64 h
      refine lv_iinc (v := nI (cs_n (cs_x x) i + 1)) (lv' := [(2, .int (nI (cs_n (cs_x x) i + 1))), (0, .long x), (3, .int (nI i))]) hx hb dX0_bits_20 hl (k := 1) rfl (cs_inc _) (by decide) rfl (fun ls hl => ?_)
      refine lv_iinc (v := nI (i + 1)) (lv' := [(3, .int (nI (i + 1))), (2, .int (nI (cs_n (cs_x x) i + 1))), (0, .long x)]) hx hb dX0_bits_23 hl (k := 2) rfl (cs_inc _) (by decide) rfl (fun ls hl => ?_)
      refine lv_goto (tgt := 4) hx hb dX0_bits_26 (by decide) ?_
      exact ih (i + 1) (by omega) ls (by rw [cs_n_t h]; exact lv_sub hl [2, 1, 0] rfl)

set_option maxHeartbeats 4000000 in
set_option maxRecDepth 100000 in
/-- bits: how many of the first forty -/
theorem cs_bits (l : Launch) (D : va_G) {tys : List (ClassId × FieldType)} (x : Int64) : cs_MR l yX0_bits (ws_ yX0_bits cX0_bits 4 (some .int)) ({ frames := 0, cells := 0, slots := 0, locals := 0 }) D vwCl [] tys [.long x] (nI (cs_n (cs_x x) 40)) := by
  intro sz
  refine Met.ofW (cc := cX0_bits) (maxL := 4) (ret := (some .int)) (by decide) rfl ?_
  intro p e s m args below meth c s₁ B hml hv9
  obtain ⟨rfl, hsz, hP, hK⟩ := hv9
  have hx := B.exec
  have hb := B.bytes
  have hr := B.returns
  have hts := atoms_spec (ws := (ws_ yX0_bits cX0_bits 4 (some .int))) B.pre
  have hts : ∀ w ∈ lw_all, w.before _ s = true := fun w h => hts w (List.mem_cons_of_mem _ h)
  have hown : s.vm.findClass RX0 = some m.cls := findClass_of_methodNamed B.named
  have hlocks := B.notSynchronized
  subst hsz
  generalize hAe : va_A [] s.heap.size = A
  have hA : ∀ q : Nat, s.heap.size ≤ q → A q := fun q h => by rw [← hAe]; exact Or.inr h
  have hS : va_S A s.heap s.heap [] := va_S.rf
  have hl := lv_entry ([.long x]) (n := 4) (Nat.le_of_ble_eq_true rfl)
  rw [lg_entry_eq]
  generalize (lg_sl ([.long x]) ++ List.replicate (4 - (lg_sl ([.long x])).length) Slot.unset).toArray = ls at hl ⊢
  have hl : lv_has ls 4 [(0, .long x)] := hl
  refine lv_iconst (v := nI 0) hx hb dX0_bits_0 (by decide) ?_
  refine lv_istore_n (lv' := [(2, .int (nI 0)), (0, .long x)]) hx hb dX0_bits_1 rfl hl (by decide) rfl (fun ls hl => ?_)
  refine lv_iconst (v := nI 0) hx hb dX0_bits_2 (by decide) ?_
  refine lv_istore_n (lv' := [(3, .int (nI 0)), (2, .int (nI 0)), (0, .long x)]) hx hb dX0_bits_3 rfl hl (by decide) rfl (fun ls hl => ?_)
  refine cs_bits_loop (D := D) hx hb hml hown hts hA ⟨Nat.zero_le _, Nat.zero_le _⟩ x (fun ls hl => ?_) 40 0 rfl ls (lv_sub hl [2, 1, 0] rfl)
  refine lv_iload_n hx hb dX0_bits_29 rfl (lv_at hl 1 rfl) ?_
  exact W.iret (v := (nI (cs_n (cs_x x) 40))) hx hb hr (fun t ht hW => ⟨⟨(nI (cs_n (cs_x x) 40)), (), rfl, rfl, trivial⟩, hS.F ht⟩) hS.2.2 dX0_bits_30

set_option maxHeartbeats 4000000 in
set_option maxRecDepth 100000 in
theorem cs_badClient (l : Launch) (D : va_G) {tys : List (ClassId × FieldType)} (p0 : Int32) : cs_MR l yX0_badClient (ws_ yX0_badClient cX0_badClient 1 (some .boolean)) ({ frames := 0, cells := 0, slots := 0, locals := 0 }) D vwCl [] tys [.int p0] (cs_b (cs_bad p0)) := by
  intro sz
  refine Met.ofW (cc := cX0_badClient) (maxL := 1) (ret := (some .boolean)) (by decide) rfl ?_
  intro p e s m args below meth c s₁ B hml hv9
  obtain ⟨rfl, hsz, hP, hK⟩ := hv9
  have hx := B.exec
  have hb := B.bytes
  have hr := B.returns
  have hts := atoms_spec (ws := (ws_ yX0_badClient cX0_badClient 1 (some .boolean))) B.pre
  have hts : ∀ w ∈ lw_all, w.before _ s = true := fun w h => hts w (List.mem_cons_of_mem _ h)
  have hown : s.vm.findClass RX0 = some m.cls := findClass_of_methodNamed B.named
  have hlocks := B.notSynchronized
  subst hsz
  generalize hAe : va_A [] s.heap.size = A
  have hA : ∀ q : Nat, s.heap.size ≤ q → A q := fun q h => by rw [← hAe]; exact Or.inr h
  have hS : va_S A s.heap s.heap [] := va_S.rf
  have hl := lv_entry ([.int p0]) (n := 1) (Nat.le_of_ble_eq_true rfl)
  rw [lg_entry_eq]
  generalize (lg_sl ([.int p0]) ++ List.replicate (1 - (lg_sl ([.int p0])).length) Slot.unset).toArray = ls at hl ⊢
  have hl : lv_has ls 1 [(0, .int p0)] := hl
  refine lv_iload_n hx hb dX0_badClient_0 rfl (lv_at hl 0 rfl) ?_
  refine lv_if_lt (tgt := 9) hx hb dX0_badClient_1 (by decide) (fun h => ?_) (fun h => ?_)
  · refine lv_iconst (v := cs_b true) hx hb dX0_badClient_9 (by decide) ?_
    refine lv_goto (tgt := 14) hx hb dX0_badClient_10 (by decide) ?_
    exact W.zret (v := (cs_b true)) hx hb hr (cs_nz _) (fun t ht hW => ⟨⟨(cs_b true), (), rfl, by rw [cs_bad_t (Or.inl h)], trivial⟩, hS.F ht⟩) hS.2.2 dX0_badClient_14
  · refine lv_iload_n hx hb dX0_badClient_4 rfl (lv_at hl 0 rfl) ?_
    refine lv_iconst (v := nI 2) hx hb dX0_badClient_5 (by decide) ?_
    refine lv_icmp_le (tgt := 13) hx hb dX0_badClient_6 (by decide) (fun h2 => ?_) (fun h2 => ?_)
    · refine lv_iconst (v := cs_b false) hx hb dX0_badClient_13 (by decide) ?_
      exact W.zret (v := (cs_b false)) hx hb hr (cs_nz _) (fun t ht hW => ⟨⟨(cs_b false), (), rfl, by rw [cs_bad_f h (cs_le2.mp h2)], trivial⟩, hS.F ht⟩) hS.2.2 dX0_badClient_14
    · refine lv_iconst (v := cs_b true) hx hb dX0_badClient_9 (by decide) ?_
      refine lv_goto (tgt := 14) hx hb dX0_badClient_10 (by decide) ?_
      exact W.zret (v := (cs_b true)) hx hb hr (cs_nz _) (fun t ht hW => ⟨⟨(cs_b true), (), rfl, by rw [cs_bad_t (Or.inr (fun q => h2 (cs_le2.mpr q)))], trivial⟩, hS.F ht⟩) hS.2.2 dX0_badClient_14

set_option maxHeartbeats 4000000 in
set_option maxRecDepth 100000 in
theorem cs_badCentre (l : Launch) (D : va_G) {tys : List (ClassId × FieldType)} (p0 : Int32) : cs_MR l yX0_badCentre (ws_ yX0_badCentre cX0_badCentre 1 (some .boolean)) ({ frames := 0, cells := 0, slots := 0, locals := 0 }) D vwCl [] tys [.int p0] (cs_b (cs_bad p0)) := by
  intro sz
  refine Met.ofW (cc := cX0_badCentre) (maxL := 1) (ret := (some .boolean)) (by decide) rfl ?_
  intro p e s m args below meth c s₁ B hml hv9
  obtain ⟨rfl, hsz, hP, hK⟩ := hv9
  have hx := B.exec
  have hb := B.bytes
  have hr := B.returns
  have hts := atoms_spec (ws := (ws_ yX0_badCentre cX0_badCentre 1 (some .boolean))) B.pre
  have hts : ∀ w ∈ lw_all, w.before _ s = true := fun w h => hts w (List.mem_cons_of_mem _ h)
  have hown : s.vm.findClass RX0 = some m.cls := findClass_of_methodNamed B.named
  have hlocks := B.notSynchronized
  subst hsz
  generalize hAe : va_A [] s.heap.size = A
  have hA : ∀ q : Nat, s.heap.size ≤ q → A q := fun q h => by rw [← hAe]; exact Or.inr h
  have hS : va_S A s.heap s.heap [] := va_S.rf
  have hl := lv_entry ([.int p0]) (n := 1) (Nat.le_of_ble_eq_true rfl)
  rw [lg_entry_eq]
  generalize (lg_sl ([.int p0]) ++ List.replicate (1 - (lg_sl ([.int p0])).length) Slot.unset).toArray = ls at hl ⊢
  have hl : lv_has ls 1 [(0, .int p0)] := hl
  refine lv_iload_n hx hb dX0_badCentre_0 rfl (lv_at hl 0 rfl) ?_
  refine lv_if_lt (tgt := 9) hx hb dX0_badCentre_1 (by decide) (fun h => ?_) (fun h => ?_)
  · refine lv_iconst (v := cs_b true) hx hb dX0_badCentre_9 (by decide) ?_
    refine lv_goto (tgt := 14) hx hb dX0_badCentre_10 (by decide) ?_
    exact W.zret (v := (cs_b true)) hx hb hr (cs_nz _) (fun t ht hW => ⟨⟨(cs_b true), (), rfl, by rw [cs_bad_t (Or.inl h)], trivial⟩, hS.F ht⟩) hS.2.2 dX0_badCentre_14
  · refine lv_iload_n hx hb dX0_badCentre_4 rfl (lv_at hl 0 rfl) ?_
    refine lv_iconst (v := 3) hx hb dX0_badCentre_5 (by decide) ?_
    refine lv_icmp_lt (tgt := 13) hx hb dX0_badCentre_6 (by decide) (fun h2 => ?_) (fun h2 => ?_)
    · refine lv_iconst (v := cs_b false) hx hb dX0_badCentre_13 (by decide) ?_
      exact W.zret (v := (cs_b false)) hx hb hr (cs_nz _) (fun t ht hW => ⟨⟨(cs_b false), (), rfl, by rw [cs_bad_f h h2], trivial⟩, hS.F ht⟩) hS.2.2 dX0_badCentre_14
    · refine lv_iconst (v := cs_b true) hx hb dX0_badCentre_9 (by decide) ?_
      refine lv_goto (tgt := 14) hx hb dX0_badCentre_10 (by decide) ?_
      exact W.zret (v := (cs_b true)) hx hb hr (cs_nz _) (fun t ht hW => ⟨⟨(cs_b true), (), rfl, by rw [cs_bad_t (Or.inr h2)], trivial⟩, hS.F ht⟩) hS.2.2 dX0_badCentre_14

set_option maxHeartbeats 4000000 in
set_option maxRecDepth 100000 in
theorem cs_noVersion (l : Launch) (D : va_G) {ad : Nat → Nat} {cI cJ : ClassId} {n : Nat} {ky : Nat → Nat} {vl : Nat → Int32} {sp : Nat → Int32} {dp : Nat → Int64} {cm : Nat → Int64} {sh : Nat → Int64} {lk : Nat → Int32} {bs : Nat → Option Nat} {pl : Nat → Nat} {ss : Nat → Int64} {st : Nat → Int32} {ch : Nat → Nat} {cd : Nat} (p0 : Int32) : cs_MR l yX0_noVersion (ws_ yX0_noVersion cX0_noVersion 2 (some .boolean)) ({ frames := 0, cells := 0, slots := 0, locals := 0 }) D vwCl (cs_wX ad cI cJ n ky vl sp dp cm sh lk bs pl ss st ch cd) (cs_tX cI cJ) [.ref (ad 0), .int p0] (cs_b (cs_nv n p0)) := by
  intro sz
  refine Met.ofW (cc := cX0_noVersion) (maxL := 2) (ret := (some .boolean)) (by decide) rfl ?_
  intro p e s m args below meth c s₁ B hml hv9
  obtain ⟨rfl, hsz, hP, hK⟩ := hv9
  have hx := B.exec
  have hb := B.bytes
  have hr := B.returns
  have hts := atoms_spec (ws := (ws_ yX0_noVersion cX0_noVersion 2 (some .boolean))) B.pre
  have hts : ∀ w ∈ lw_all, w.before _ s = true := fun w h => hts w (List.mem_cons_of_mem _ h)
  have hown : s.vm.findClass RX0 = some m.cls := findClass_of_methodNamed B.named
  have hlocks := B.notSynchronized
  subst hsz
  generalize hAe : va_A [] s.heap.size = A
  have hA : ∀ q : Nat, s.heap.size ≤ q → A q := fun q h => by rw [← hAe]; exact Or.inr h
  have hS : va_S A s.heap s.heap [] := va_S.rf
  have hP : va_P D vwCl (cs_wX ad cI cJ n ky vl sp dp cm sh lk bs pl ss st ch cd) s.heap := hP
  have hl := lv_entry ([.ref (ad 0), .int p0]) (n := 2) (Nat.le_of_ble_eq_true rfl)
  rw [lg_entry_eq]
  generalize (lg_sl ([.ref (ad 0), .int p0]) ++ List.replicate (2 - (lg_sl ([.ref (ad 0), .int p0])).length) Slot.unset).toArray = ls at hl ⊢
  have hl : lv_has ls 2 [(0, .ref (ad 0)), (1, .int p0)] := hl
  refine lv_iload_n hx hb dX0_noVersion_0 rfl (lv_at hl 1 rfl) ?_
  refine lv_if_lt (tgt := 12) hx hb dX0_noVersion_1 (by decide) (fun h => ?_) (fun h => ?_)
  · refine lv_iconst (v := cs_b true) hx hb dX0_noVersion_12 (by decide) ?_
    refine lv_goto (tgt := 17) hx hb dX0_noVersion_13 (by decide) ?_
    exact W.zret (v := (cs_b true)) hx hb hr (cs_nz _) (fun t ht hW => ⟨⟨(cs_b true), (), rfl, by rw [cs_nv_t (Or.inl h)], trivial⟩, hS.F ht⟩) hS.2.2 dX0_noVersion_17
  · refine lv_iload_n hx hb dX0_noVersion_4 rfl (lv_at hl 1 rfl) ?_
    refine lv_aload_n hx hb dX0_noVersion_5 rfl (lv_at hl 0 rfl) ?_
    refine va_get (D := D) (ci := 0) (v := .int (nI n)) (C := RX0) (T := TX0) (N := 14) hx hb hts in_X0 hown hK hP 0 rfl rfl 0 (by decide) (hts _ q22) (fun _ h9 => h9) rfl dX0_noVersion_6 ?_
    refine lv_icmp_lt (tgt := 16) hx hb dX0_noVersion_9 (by decide) (fun h2 => ?_) (fun h2 => ?_)
    · refine lv_iconst (v := cs_b false) hx hb dX0_noVersion_16 (by decide) ?_
      exact W.zret (v := (cs_b false)) hx hb hr (cs_nz _) (fun t ht hW => ⟨⟨(cs_b false), (), rfl, by rw [cs_nv_f h h2], trivial⟩, hS.F ht⟩) hS.2.2 dX0_noVersion_17
    · refine lv_iconst (v := cs_b true) hx hb dX0_noVersion_12 (by decide) ?_
      refine lv_goto (tgt := 17) hx hb dX0_noVersion_13 (by decide) ?_
      exact W.zret (v := (cs_b true)) hx hb hr (cs_nz _) (fun t ht hW => ⟨⟨(cs_b true), (), rfl, by rw [cs_nv_t (Or.inr h2)], trivial⟩, hS.F ht⟩) hS.2.2 dX0_noVersion_17

set_option maxHeartbeats 4000000 in
set_option maxRecDepth 100000 in
theorem cs_beats (l : Launch) (D : va_G) {ad : Nat → Nat} {cI cJ : ClassId} {n : Nat} {ky : Nat → Nat} {vl : Nat → Int32} {sp : Nat → Int32} {dp : Nat → Int64} {cm : Nat → Int64} {sh : Nat → Int64} {lk : Nat → Int32} {bs : Nat → Option Nat} {pl : Nat → Nat} {ss : Nat → Int64} {st : Nat → Int32} {ch : Nat → Nat} {cd : Nat} (v : Nat) (o : Option Nat) (hv : v < 40) (ho : ∀ j, o = some j → j < 40) : cs_MR l yX0_beats (ws_ yX0_beats cX0_beats 3 (some .boolean)) ({ frames := 0, cells := 0, slots := 0, locals := 0 }) D vwCl (cs_wX ad cI cJ n ky vl sp dp cm sh lk bs pl ss st ch cd) (cs_tX cI cJ) [.ref (ad 0), .int (nI v), .int (cs_o o)] (cs_b (cs_beat sp v o)) := by
  intro sz
  refine Met.ofW (cc := cX0_beats) (maxL := 3) (ret := (some .boolean)) (by decide) rfl ?_
  intro p e s m args below meth c s₁ B hml hv9
  obtain ⟨rfl, hsz, hP, hK⟩ := hv9
  have hx := B.exec
  have hb := B.bytes
  have hr := B.returns
  have hts := atoms_spec (ws := (ws_ yX0_beats cX0_beats 3 (some .boolean))) B.pre
  have hts : ∀ w ∈ lw_all, w.before _ s = true := fun w h => hts w (List.mem_cons_of_mem _ h)
  have hown : s.vm.findClass RX0 = some m.cls := findClass_of_methodNamed B.named
  have hlocks := B.notSynchronized
  subst hsz
  generalize hAe : va_A [] s.heap.size = A
  have hA : ∀ q : Nat, s.heap.size ≤ q → A q := fun q h => by rw [← hAe]; exact Or.inr h
  have hS : va_S A s.heap s.heap [] := va_S.rf
  have hP : va_P D vwCl (cs_wX ad cI cJ n ky vl sp dp cm sh lk bs pl ss st ch cd) s.heap := hP
  have hl := lv_entry ([.ref (ad 0), .int (nI v), .int (cs_o o)]) (n := 3) (Nat.le_of_ble_eq_true rfl)
  rw [lg_entry_eq]
  generalize (lg_sl ([.ref (ad 0), .int (nI v), .int (cs_o o)]) ++ List.replicate (3 - (lg_sl ([.ref (ad 0), .int (nI v), .int (cs_o o)])).length) Slot.unset).toArray = ls at hl ⊢
  have hl : lv_has ls 3 [(0, .ref (ad 0)), (1, .int (nI v)), (2, .int (cs_o o))] := hl
  cases o with
  | none =>
    refine lv_iload_n hx hb dX0_beats_0 rfl (lv_at hl 2 rfl) ?_
    refine lv_if_ge (tgt := 6) hx hb dX0_beats_1 (by decide) (fun h => absurd h (by decide)) (fun h => ?_)
    refine lv_iconst (v := cs_b true) hx hb dX0_beats_4 (by decide) ?_
    exact W.zret (v := (cs_b true)) hx hb hr (cs_nz _) (fun t ht hW => ⟨⟨(cs_b true), (), rfl, rfl, trivial⟩, hS.F ht⟩) hS.2.2 dX0_beats_5
  | some j =>
    have hl : lv_has ls 3 [(0, .ref (ad 0)), (1, .int (nI v)), (2, .int (nI j))] := hl
    have hj : j < 40 := ho j rfl
    refine lv_iload_n hx hb dX0_beats_0 rfl (lv_at hl 2 rfl) ?_
    refine lv_if_ge (tgt := 6) hx hb dX0_beats_1 (by decide) (fun h => ?_) (fun h => absurd (nI_pos' (by omega)) h)
    refine lv_aload_n hx hb dX0_beats_6 rfl (lv_at hl 0 rfl) ?_
    refine va_get (D := D) (ci := 0) (v := .ref (ad 3)) (C := RX0) (T := TX0) (N := 14) hx hb hts in_X0 hown hK hP 0 rfl rfl 3 (by decide) (hts _ q25) (fun _ h9 => h9) rfl dX0_beats_7 ?_
    refine lv_iload_n hx hb dX0_beats_10 rfl (lv_at hl 1 rfl) ?_
    refine cs_iald hx hb hK hP 3 0 rfl rfl (k := v) (by omega) (by decide) dX0_beats_11 ?_
    refine lv_aload_n hx hb dX0_beats_12 rfl (lv_at hl 0 rfl) ?_
    refine va_get (D := D) (ci := 0) (v := .ref (ad 3)) (C := RX0) (T := TX0) (N := 14) hx hb hts in_X0 hown hK hP 0 rfl rfl 3 (by decide) (hts _ q25) (fun _ h9 => h9) rfl dX0_beats_13 ?_
    refine lv_iload_n hx hb dX0_beats_16 rfl (lv_at hl 2 rfl) ?_
    refine cs_iald hx hb hK hP 3 0 rfl rfl (k := j) (by omega) (by decide) dX0_beats_17 ?_
    refine lv_icmp_eq (tgt := 44) hx hb dX0_beats_18 (by decide) (fun h1 => ?_) (fun h1 => ?_)
    · refine lv_iload_n hx hb dX0_beats_44 rfl (lv_at hl 1 rfl) ?_
      refine lv_iload_n hx hb dX0_beats_45 rfl (lv_at hl 2 rfl) ?_
      refine cs_jle (tgt := 53) hx hb dX0_beats_46 (by decide) (by omega) (by omega) (fun h2 => ?_) (fun h2 => ?_)
      · refine lv_iconst (v := cs_b false) hx hb dX0_beats_53 (by decide) ?_
        exact W.zret (v := (cs_b false)) hx hb hr (cs_nz _) (fun t ht hW => ⟨⟨(cs_b false), (), rfl, by rw [cs_beat_e h1, decide_eq_false (by omega)], trivial⟩, hS.F ht⟩) hS.2.2 dX0_beats_54
      · refine lv_iconst (v := cs_b true) hx hb dX0_beats_49 (by decide) ?_
        refine lv_goto (tgt := 54) hx hb dX0_beats_50 (by decide) ?_
        exact W.zret (v := (cs_b true)) hx hb hr (cs_nz _) (fun t ht hW => ⟨⟨(cs_b true), (), rfl, by rw [cs_beat_e h1, decide_eq_true (by omega)], trivial⟩, hS.F ht⟩) hS.2.2 dX0_beats_54
    · refine lv_aload_n hx hb dX0_beats_21 rfl (lv_at hl 0 rfl) ?_
      refine va_get (D := D) (ci := 0) (v := .ref (ad 3)) (C := RX0) (T := TX0) (N := 14) hx hb hts in_X0 hown hK hP 0 rfl rfl 3 (by decide) (hts _ q25) (fun _ h9 => h9) rfl dX0_beats_22 ?_
      refine lv_iload_n hx hb dX0_beats_25 rfl (lv_at hl 1 rfl) ?_
      refine cs_iald hx hb hK hP 3 0 rfl rfl (k := v) (by omega) (by decide) dX0_beats_26 ?_
      refine lv_aload_n hx hb dX0_beats_27 rfl (lv_at hl 0 rfl) ?_
      refine va_get (D := D) (ci := 0) (v := .ref (ad 3)) (C := RX0) (T := TX0) (N := 14) hx hb hts in_X0 hown hK hP 0 rfl rfl 3 (by decide) (hts _ q25) (fun _ h9 => h9) rfl dX0_beats_28 ?_
      refine lv_iload_n hx hb dX0_beats_31 rfl (lv_at hl 2 rfl) ?_
      refine cs_iald hx hb hK hP 3 0 rfl rfl (k := j) (by omega) (by decide) dX0_beats_32 ?_
      refine lv_icmp_le (tgt := 40) hx hb dX0_beats_33 (by decide) (fun h2 => ?_) (fun h2 => ?_)
      · refine lv_iconst (v := cs_b false) hx hb dX0_beats_40 (by decide) ?_
        refine lv_goto (tgt := 54) hx hb dX0_beats_41 (by decide) ?_
        exact W.zret (v := (cs_b false)) hx hb hr (cs_nz _) (fun t ht hW => ⟨⟨(cs_b false), (), rfl, by rw [cs_beat_n h1, decide_eq_false (fun q => (cs_nle.mpr h2) q)], trivial⟩, hS.F ht⟩) hS.2.2 dX0_beats_54
      · refine lv_iconst (v := cs_b true) hx hb dX0_beats_36 (by decide) ?_
        refine lv_goto (tgt := 54) hx hb dX0_beats_37 (by decide) ?_
        exact W.zret (v := (cs_b true)) hx hb hr (cs_nz _) (fun t ht hW => ⟨⟨(cs_b true), (), rfl, by rw [cs_beat_n h1, decide_eq_true (cs_nlt.mp h2)], trivial⟩, hS.F ht⟩) hS.2.2 dX0_beats_54

set_option maxHeartbeats 4000000 in
set_option maxRecDepth 100000 in
theorem cs_lower (l : Launch) (D : va_G) {ad : Nat → Nat} {cI cJ : ClassId} {n : Nat} {ky : Nat → Nat} {vl : Nat → Int32} {sp : Nat → Int32} {dp : Nat → Int64} {cm : Nat → Int64} {sh : Nat → Int64} {lk : Nat → Int32} {bs : Nat → Option Nat} {pl : Nat → Nat} {ss : Nat → Int64} {st : Nat → Int32} {ch : Nat → Nat} {cd : Nat} (z w : Nat) (hz : z < 3) (hw : w < 40) (hcd : cd < 40) : cs_MV l yX0_lower (ws_ yX0_lower cX0_lower 3 none) ({ frames := 0, cells := 0, slots := 0, locals := 0 }) D vwCl (cs_wX ad cI cJ n ky vl sp dp cm sh lk bs pl ss st ch cd) (cs_tX cI cJ) [.ref (ad 0), .int (nI z), .int (nI w)] (fun w' => w' = cs_wX ad cI cJ n ky vl sp dp cm sh ((cs_low (z * 40 + w) w (lk, ch, cd)).1) bs pl ss st ((cs_low (z * 40 + w) w (lk, ch, cd)).2.1) ((cs_low (z * 40 + w) w (lk, ch, cd)).2.2)) := by
  intro sz
  refine Met.ofW (cc := cX0_lower) (maxL := 3) (ret := none) (by decide) rfl ?_
  intro p e s m args below meth c s₁ B hml hv9
  obtain ⟨rfl, hsz, hP, hK, hD0⟩ := hv9
  have hx := B.exec
  have hb := B.bytes
  have hr := B.returns
  have hts := atoms_spec (ws := (ws_ yX0_lower cX0_lower 3 none)) B.pre
  have hts : ∀ w ∈ lw_all, w.before _ s = true := fun w h => hts w (List.mem_cons_of_mem _ h)
  have hown : s.vm.findClass RX0 = some m.cls := findClass_of_methodNamed B.named
  have hlocks := B.notSynchronized
  subst hsz
  have hD := hD0.self (sz := s.heap.size)
  generalize hAe : va_A (cs_wX ad cI cJ n ky vl sp dp cm sh lk bs pl ss st ch cd) s.heap.size = A at hD ⊢
  have hA : ∀ q : Nat, s.heap.size ≤ q → A q := fun q h => by rw [← hAe]; exact Or.inr h
  have hS : va_S A s.heap s.heap [] := va_S.rf
  have hP : va_P D vwCl (cs_wX ad cI cJ n ky vl sp dp cm sh lk bs pl ss st ch cd) s.heap := hP
  have hl := lv_entry ([.ref (ad 0), .int (nI z), .int (nI w)]) (n := 3) (Nat.le_of_ble_eq_true rfl)
  rw [lg_entry_eq]
  generalize (lg_sl ([.ref (ad 0), .int (nI z), .int (nI w)]) ++ List.replicate (3 - (lg_sl ([.ref (ad 0), .int (nI z), .int (nI w)])).length) Slot.unset).toArray = ls at hl ⊢
  have hl : lv_has ls 3 [(0, .ref (ad 0)), (1, .int (nI z)), (2, .int (nI w))] := hl
  refine lv_aload_n hx hb dX0_lower_0 rfl (lv_at hl 0 rfl) ?_
  refine va_get (D := D) (ci := 0) (v := .ref (ad 7)) (C := RX0) (T := TX0) (N := 14) hx hb hts in_X0 hown hK hP 0 rfl rfl 7 (by decide) (hts _ q29) (fun _ h9 => h9) rfl dX0_lower_1 ?_
  refine lv_iload_n hx hb dX0_lower_4 rfl (lv_at hl 1 rfl) ?_
  refine lv_bipush (v := nI 40) hx hb dX0_lower_5 (by decide) ?_
  refine cs_imul hx hb dX0_lower_7 ?_
  refine lv_iload_n hx hb dX0_lower_8 rfl (lv_at hl 2 rfl) ?_
  refine cs_iadd hx hb dX0_lower_9 ?_
  refine lv_dup2_11 hx hb dX0_lower_10 rfl rfl ?_
  refine cs_iald hx hb hK hP 7 0 rfl rfl (k := (z * 40) + w) (by omega) (by decide) dX0_lower_11 ?_
  refine lv_iconst (v := 1) hx hb dX0_lower_12 (by decide) ?_
  refine lv_isub hx hb dX0_lower_13 ?_
  refine cs_iast (f := lk) (k := (z * 40) + w) (x := (((lk ((z * 40) + w))) - ((1)))) hx hb hK hP hD hS 7 0 rfl rfl (by omega) (by decide) dX0_lower_14 (fun H locs hP hD hS => ?_)
  have hP : va_P D vwCl (cs_wX ad cI cJ n ky vl sp dp cm sh (va_up lk ((z * 40) + w) ((((lk ((z * 40) + w))) - ((1))))) bs pl ss st ch cd) H := hP
  have hD : va_D A (cs_wX ad cI cJ n ky vl sp dp cm sh (va_up lk ((z * 40) + w) ((((lk ((z * 40) + w))) - ((1))))) bs pl ss st ch cd) := hD
  refine lv_aload_n hx hb dX0_lower_15 rfl (lv_at hl 0 rfl) ?_
  refine va_get (D := D) (ci := 0) (v := .ref (ad 7)) (C := RX0) (T := TX0) (N := 14) hx hb hts in_X0 hown hK hP 0 rfl rfl 7 (by decide) (hts _ q29) (fun _ h9 => h9) rfl dX0_lower_16 ?_
  refine lv_iload_n hx hb dX0_lower_19 rfl (lv_at hl 1 rfl) ?_
  refine lv_bipush (v := nI 40) hx hb dX0_lower_20 (by decide) ?_
  refine cs_imul hx hb dX0_lower_22 ?_
  refine lv_iload_n hx hb dX0_lower_23 rfl (lv_at hl 2 rfl) ?_
  refine cs_iadd hx hb dX0_lower_24 ?_
  refine cs_iald hx hb hK hP 7 0 rfl rfl (k := (z * 40) + w) (by omega) (by decide) dX0_lower_25 ?_
  refine cs_ti (y := (lk (z * 40 + w) - 1)) (va_up_self _ _ _) ?_
  refine lv_if_ne (tgt := 49) hx hb dX0_lower_26 (by decide) (fun h => ?_) (fun h => ?_)
  · exact W.vret hx hb hr (fun t ht hW => ⟨⟨cs_wX ad cI cJ n ky vl sp dp cm sh (va_up lk ((z * 40) + w) ((((lk ((z * 40) + w))) - ((1))))) bs pl ss st ch cd, rfl, by rw [cs_low_f h], by rw [ht]; exact hP, hD⟩, hS.F ht⟩) hS.2.2 dX0_lower_49
  · refine lv_aload_n hx hb dX0_lower_29 rfl (lv_at hl 0 rfl) ?_
    refine va_get (D := D) (ci := 0) (v := .ref (ad 12)) (C := RX0) (T := TX0) (N := 14) hx hb hts in_X0 hown hK hP 0 rfl rfl 12 (by decide) (hts _ q34) (fun _ h9 => h9) rfl dX0_lower_30 ?_
    refine lv_aload_n hx hb dX0_lower_33 rfl (lv_at hl 0 rfl) ?_
    refine va_get (D := D) (ci := 0) (v := .int (nI cd)) (C := RX0) (T := TX0) (N := 14) hx hb hts in_X0 hown hK hP 0 rfl rfl 13 (by decide) (hts _ q35) (fun _ h9 => h9) rfl dX0_lower_34 ?_
    refine lv_iload_n hx hb dX0_lower_37 rfl (lv_at hl 2 rfl) ?_
    refine cs_iastN (f := ch) (k := cd) (x := w) hx hb hK hP hD hS 12 0 rfl rfl (by omega) (by decide) dX0_lower_38 (fun H locs hP hD hS => ?_)
    have hP : va_P D vwCl (cs_wX ad cI cJ n ky vl sp dp cm sh (va_up lk ((z * 40) + w) ((((lk ((z * 40) + w))) - ((1))))) bs pl ss st (va_up ch cd w) cd) H := hP
    have hD : va_D A (cs_wX ad cI cJ n ky vl sp dp cm sh (va_up lk ((z * 40) + w) ((((lk ((z * 40) + w))) - ((1))))) bs pl ss st (va_up ch cd w) cd) := hD
    refine lv_aload_n hx hb dX0_lower_39 rfl (lv_at hl 0 rfl) ?_
    refine lv_dup hx hb dX0_lower_40 rfl ?_
    refine va_get (D := D) (ci := 0) (v := .int (nI cd)) (C := RX0) (T := TX0) (N := 14) hx hb hts in_X0 hown hK hP 0 rfl rfl 13 (by decide) (hts _ q35) (fun _ h9 => h9) rfl dX0_lower_41 ?_
    refine lv_iconst (v := nI 1) hx hb dX0_lower_44 (by decide) ?_
    refine cs_iadd hx hb dX0_lower_45 ?_
    refine va_put (D := D) (ci := 0) (v := .int (nI (cd + 1))) (ty := .int) (C := RX0) (T := TX0) (N := 14) hx hb hts in_X0 tyX0 tyX0_ok nmX0 hown hK hP hD hS 0 rfl rfl 13 (by decide) (hts _ q35) (fun _ h9 => h9) rfl (by decide +kernel) rfl rfl (Nat.le_of_ble_eq_true rfl) dX0_lower_46 (fun H locs hP hD hS => ?_)
    have hP : va_P D vwCl (cs_wX ad cI cJ n ky vl sp dp cm sh (va_up lk ((z * 40) + w) ((((lk ((z * 40) + w))) - ((1))))) bs pl ss st (va_up ch cd w) (cd + 1)) H := hP
    have hD : va_D A (cs_wX ad cI cJ n ky vl sp dp cm sh (va_up lk ((z * 40) + w) ((((lk ((z * 40) + w))) - ((1))))) bs pl ss st (va_up ch cd w) (cd + 1)) := hD
    exact W.vret hx hb hr (fun t ht hW => ⟨⟨cs_wX ad cI cJ n ky vl sp dp cm sh (va_up lk ((z * 40) + w) ((((lk ((z * 40) + w))) - ((1))))) bs pl ss st (va_up ch cd w) (cd + 1), rfl, by rw [cs_low_t h], by rw [ht]; exact hP, hD⟩, hS.F ht⟩) hS.2.2 dX0_lower_49

set_option maxHeartbeats 4000000 in
set_option maxRecDepth 100000 in
theorem cs_see (l : Launch) (D : va_G) {ad : Nat → Nat} {cI cJ : ClassId} {n : Nat} {ky : Nat → Nat} {vl : Nat → Int32} {sp : Nat → Int32} {dp : Nat → Int64} {cm : Nat → Int64} {sh : Nat → Int64} {lk : Nat → Int32} {bs : Nat → Option Nat} {pl : Nat → Nat} {ss : Nat → Int64} {st : Nat → Int32} {ch : Nat → Nat} {cd : Nat} (u v : Nat) (hu : u < 3) (hv : v < 40) : cs_MV l yX0_see (ws_ yX0_see cX0_see 3 none) ({ frames := 0, cells := 0, slots := 0, locals := 0 }) D vwCl (cs_wX ad cI cJ n ky vl sp dp cm sh lk bs pl ss st ch cd) (cs_tX cI cJ) [.ref (ad 0), .int (nI u), .int (nI v)] (fun w' => w' = cs_wX ad cI cJ n ky vl sp dp cm sh lk bs pl (va_up ss u (ss u ||| cs_l v)) (cs_su st u (sp v)) ch cd) := by
  intro sz
  refine Met.ofW (cc := cX0_see) (maxL := 3) (ret := none) (by decide) rfl ?_
  intro p e s m args below meth c s₁ B hml hv9
  obtain ⟨rfl, hsz, hP, hK, hD0⟩ := hv9
  have hx := B.exec
  have hb := B.bytes
  have hr := B.returns
  have hts := atoms_spec (ws := (ws_ yX0_see cX0_see 3 none)) B.pre
  have hts : ∀ w ∈ lw_all, w.before _ s = true := fun w h => hts w (List.mem_cons_of_mem _ h)
  have hown : s.vm.findClass RX0 = some m.cls := findClass_of_methodNamed B.named
  have hlocks := B.notSynchronized
  subst hsz
  have hD := hD0.self (sz := s.heap.size)
  generalize hAe : va_A (cs_wX ad cI cJ n ky vl sp dp cm sh lk bs pl ss st ch cd) s.heap.size = A at hD ⊢
  have hA : ∀ q : Nat, s.heap.size ≤ q → A q := fun q h => by rw [← hAe]; exact Or.inr h
  have hS : va_S A s.heap s.heap [] := va_S.rf
  have hP : va_P D vwCl (cs_wX ad cI cJ n ky vl sp dp cm sh lk bs pl ss st ch cd) s.heap := hP
  have hl := lv_entry ([.ref (ad 0), .int (nI u), .int (nI v)]) (n := 3) (Nat.le_of_ble_eq_true rfl)
  rw [lg_entry_eq]
  generalize (lg_sl ([.ref (ad 0), .int (nI u), .int (nI v)]) ++ List.replicate (3 - (lg_sl ([.ref (ad 0), .int (nI u), .int (nI v)])).length) Slot.unset).toArray = ls at hl ⊢
  have hl : lv_has ls 3 [(0, .ref (ad 0)), (1, .int (nI u)), (2, .int (nI v))] := hl
  refine lv_aload_n hx hb dX0_see_0 rfl (lv_at hl 0 rfl) ?_
  refine va_get (D := D) (ci := 0) (v := .ref (ad 10)) (C := RX0) (T := TX0) (N := 14) hx hb hts in_X0 hown hK hP 0 rfl rfl 10 (by decide) (hts _ q32) (fun _ h9 => h9) rfl dX0_see_1 ?_
  refine lv_iload_n hx hb dX0_see_4 rfl (lv_at hl 1 rfl) ?_
  refine lv_dup2_11 hx hb dX0_see_5 rfl rfl ?_
  refine cs_lald hx hb hK hP 10 1 rfl rfl (k := u) (by omega) (by decide) dX0_see_6 ?_
  refine lv_lconst (v := 1) hx hb dX0_see_7 (by decide) ?_
  refine lv_iload_n hx hb dX0_see_8 rfl (lv_at hl 2 rfl) ?_
  refine lv_lshl (v := cs_l v) hx hb dX0_see_9 rfl ?_
  refine lv_lor hx hb dX0_see_10 ?_
  refine cs_last (f := ss) (k := u) (x := (((ss u)) ||| ((cs_l v)))) hx hb hK hP hD hS 10 1 rfl rfl (by omega) (by decide) dX0_see_11 (fun H locs hP hD hS => ?_)
  have hP : va_P D vwCl (cs_wX ad cI cJ n ky vl sp dp cm sh lk bs pl (va_up ss u ((((ss u)) ||| ((cs_l v))))) st ch cd) H := hP
  have hD : va_D A (cs_wX ad cI cJ n ky vl sp dp cm sh lk bs pl (va_up ss u ((((ss u)) ||| ((cs_l v))))) st ch cd) := hD
  refine lv_aload_n hx hb dX0_see_12 rfl (lv_at hl 0 rfl) ?_
  refine va_get (D := D) (ci := 0) (v := .ref (ad 3)) (C := RX0) (T := TX0) (N := 14) hx hb hts in_X0 hown hK hP 0 rfl rfl 3 (by decide) (hts _ q25) (fun _ h9 => h9) rfl dX0_see_13 ?_
  refine lv_iload_n hx hb dX0_see_16 rfl (lv_at hl 2 rfl) ?_
  refine cs_iald hx hb hK hP 3 0 rfl rfl (k := v) (by omega) (by decide) dX0_see_17 ?_
  refine lv_aload_n hx hb dX0_see_18 rfl (lv_at hl 0 rfl) ?_
  refine va_get (D := D) (ci := 0) (v := .ref (ad 11)) (C := RX0) (T := TX0) (N := 14) hx hb hts in_X0 hown hK hP 0 rfl rfl 11 (by decide) (hts _ q33) (fun _ h9 => h9) rfl dX0_see_19 ?_
  refine lv_iload_n hx hb dX0_see_22 rfl (lv_at hl 1 rfl) ?_
  refine cs_iald hx hb hK hP 11 0 rfl rfl (k := u) (by omega) (by decide) dX0_see_23 ?_
  refine lv_icmp_le (tgt := 39) hx hb dX0_see_24 (by decide) (fun h => ?_) (fun h => ?_)
  · exact W.vret hx hb hr (fun t ht hW => ⟨⟨cs_wX ad cI cJ n ky vl sp dp cm sh lk bs pl (va_up ss u ((((ss u)) ||| ((cs_l v))))) st ch cd, rfl, by rw [cs_su_f (cs_nle.mpr h)], by rw [ht]; exact hP, hD⟩, hS.F ht⟩) hS.2.2 dX0_see_39
  · refine lv_aload_n hx hb dX0_see_27 rfl (lv_at hl 0 rfl) ?_
    refine va_get (D := D) (ci := 0) (v := .ref (ad 11)) (C := RX0) (T := TX0) (N := 14) hx hb hts in_X0 hown hK hP 0 rfl rfl 11 (by decide) (hts _ q33) (fun _ h9 => h9) rfl dX0_see_28 ?_
    refine lv_iload_n hx hb dX0_see_31 rfl (lv_at hl 1 rfl) ?_
    refine lv_aload_n hx hb dX0_see_32 rfl (lv_at hl 0 rfl) ?_
    refine va_get (D := D) (ci := 0) (v := .ref (ad 3)) (C := RX0) (T := TX0) (N := 14) hx hb hts in_X0 hown hK hP 0 rfl rfl 3 (by decide) (hts _ q25) (fun _ h9 => h9) rfl dX0_see_33 ?_
    refine lv_iload_n hx hb dX0_see_36 rfl (lv_at hl 2 rfl) ?_
    refine cs_iald hx hb hK hP 3 0 rfl rfl (k := v) (by omega) (by decide) dX0_see_37 ?_
    refine cs_iast (f := st) (k := u) (x := (sp v)) hx hb hK hP hD hS 11 0 rfl rfl (by omega) (by decide) dX0_see_38 (fun H locs hP hD hS => ?_)
    have hP : va_P D vwCl (cs_wX ad cI cJ n ky vl sp dp cm sh lk bs pl (va_up ss u ((((ss u)) ||| ((cs_l v))))) (va_up st u ((sp v))) ch cd) H := hP
    have hD : va_D A (cs_wX ad cI cJ n ky vl sp dp cm sh lk bs pl (va_up ss u ((((ss u)) ||| ((cs_l v))))) (va_up st u ((sp v))) ch cd) := hD
    exact W.vret hx hb hr (fun t ht hW => ⟨⟨cs_wX ad cI cJ n ky vl sp dp cm sh lk bs pl (va_up ss u ((((ss u)) ||| ((cs_l v))))) (va_up st u ((sp v))) ch cd, rfl, by rw [cs_su_t (cs_nlt.mp h)], by rw [ht]; exact hP, hD⟩, hS.F ht⟩) hS.2.2 dX0_see_39
end
section
set_option maxHeartbeats 4000000 in
set_option maxRecDepth 100000 in
theorem cs_show_loop {p : Program} {l : Launch} {e : Env} {R : Room} {s : State} {m : MethodId} {args : Array Value} {below : List Frame} {meth : Method} {c : Code} {Q : State → Prop} {D : va_G} {A : Nat → Prop} {H0 : Heap} (hx : p.tables.exec = Jvm.exec) (hb : c.code = cX0_show) (hml : c.maxLocals = 7) (hown : s.vm.findClass RX0 = some m.cls) (hts : ∀ w ∈ lw_all, w.before args s = true) (hA : ∀ q : Nat, H0.size ≤ q → A q) (hR : 1 ≤ R.frames ∧ 22 ≤ R.locals) {ad : Nat → Nat} {cI cJ : ClassId} (hK : va_K D vwCl (cs_tX cI cJ) s) {n : Nat} {ky : Nat → Nat} {vl : Nat → Int32} {sp : Nat → Int32} {dp : Nat → Int64} {cm : Nat → Int64} {sh : Nat → Int64} {bs : Nat → Option Nat} {pl : Nat → Nat} {ss : Nat → Int64} {st : Nat → Int32} {t0 : cs_T3} (z v : Nat) (hz : z < 3) (hv : v < 40) (hn : n ≤ 40) (hsafe : ∀ k, k < n → cs_wt (cm z) (sh z) dp v k = true → (cs_sl (cm z) (sh z) dp z v t0 k).2.2 < 40) (hend : ∀ (H : Heap) (locs : List Loc), va_P D vwCl (cs_wX ad cI cJ n ky vl sp dp cm sh ((cs_sl (cm z) (sh z) dp z v t0 n).1) bs pl ss st ((cs_sl (cm z) (sh z) dp z v t0 n).2.1) ((cs_sl (cm z) (sh z) dp z v t0 n).2.2)) H → va_D A (cs_wX ad cI cJ n ky vl sp dp cm sh ((cs_sl (cm z) (sh z) dp z v t0 n).1) bs pl ss st ((cs_sl (cm z) (sh z) dp z v t0 n).2.1) ((cs_sl (cm z) (sh z) dp z v t0 n).2.2)) → va_S A H0 H locs → ∀ ls : Array Slot, lv_has ls 7 [(0, .ref (ad 0)), (1, .int (nI z)), (2, .int (nI v)), (5, .int (nI n))] → W p l e R s m args below meth c H locs 0 0 Q (F0 m 128 ls [])) :
    ∀ (j k : Nat), k + j = n → ∀ (H : Heap) (locs : List Loc), va_P D vwCl (cs_wX ad cI cJ n ky vl sp dp cm sh ((cs_sl (cm z) (sh z) dp z v t0 k).1) bs pl ss st ((cs_sl (cm z) (sh z) dp z v t0 k).2.1) ((cs_sl (cm z) (sh z) dp z v t0 k).2.2)) H → va_D A (cs_wX ad cI cJ n ky vl sp dp cm sh ((cs_sl (cm z) (sh z) dp z v t0 k).1) bs pl ss st ((cs_sl (cm z) (sh z) dp z v t0 k).2.1) ((cs_sl (cm z) (sh z) dp z v t0 k).2.2)) → va_S A H0 H locs → ∀ ls : Array Slot, lv_has ls 7 [(0, .ref (ad 0)), (1, .int (nI z)), (2, .int (nI v)), (5, .int (nI k))] → W p l e R s m args below meth c H locs 0 0 Q (F0 m 52 ls []) := by
  intro j
  induction j with
  | zero =>
    intro k hk H locs hP hD hS ls hl
    refine lv_iload hx hb dX0_show_52 (lv_at hl 3 rfl) ?_
    refine lv_aload_n hx hb dX0_show_54 rfl (lv_at hl 0 rfl) ?_
    refine va_get (D := D) (ci := 0) (v := .int (nI n)) (C := RX0) (T := TX0) (N := 14) hx hb hts in_X0 hown hK hP 0 rfl rfl 0 (by decide) (hts _ q22) (fun _ h9 => h9) rfl dX0_show_55 ?_
    refine cs_jge (tgt := 128) hx hb dX0_show_58 (by decide) (by omega) (by omega) (fun h => ?_) (fun h => absurd h (by omega))
    have hk : k = n := by omega
    subst hk
    exact hend H locs hP hD hS ls hl
  | succ j ih =>
    intro k hk H locs hP hD hS ls hl
    refine lv_iload hx hb dX0_show_52 (lv_at hl 3 rfl) ?_
    refine lv_aload_n hx hb dX0_show_54 rfl (lv_at hl 0 rfl) ?_
    refine va_get (D := D) (ci := 0) (v := .int (nI n)) (C := RX0) (T := TX0) (N := 14) hx hb hts in_X0 hown hK hP 0 rfl rfl 0 (by decide) (hts _ q22) (fun _ h9 => h9) rfl dX0_show_55 ?_
    refine cs_jge (tgt := 128) hx hb dX0_show_58 (by decide) (by omega) (by omega) (fun h => absurd h (by omega)) (fun h => ?_)
    refine lv_aload_n hx hb dX0_show_61 rfl (lv_at hl 0 rfl) ?_
    refine va_get (D := D) (ci := 0) (v := .ref (ad 5)) (C := RX0) (T := TX0) (N := 14) hx hb hts in_X0 hown hK hP 0 rfl rfl 5 (by decide) (hts _ q27) (fun _ h9 => h9) rfl dX0_show_62 ?_
    refine lv_iload_n hx hb dX0_show_65 rfl (lv_at hl 1 rfl) ?_
    refine cs_lald hx hb hK hP 5 1 rfl rfl (k := z) (by omega) (by decide) dX0_show_66 ?_
    refine lv_iload hx hb dX0_show_67 (lv_at hl 3 rfl) ?_
    refine cs_callRS (As := [.long (cm z), .int (nI k)]) (rest := []) ⟨hx, hb, hml, hown, hts⟩ (cs_has l D (cm z) k (by omega)) (va_cwS 2 hts (lw_S q90 q91 q12 q92) rfl rfl rfl (by decide +kernel) ⟨Nat.le_trans (Nat.le_of_ble_eq_true rfl) hR.1, Nat.le_trans (Nat.le_of_ble_eq_true rfl) hR.2⟩) cs_P0 hK hP hS hA rfl hl.1 rfl (Nat.le_of_ble_eq_true rfl) dX0_show_69 ⟨Nat.zero_le _, Nat.zero_le _⟩ (fun H locs hP hS => ?_)
    refine cs_zeq (tgt := 107) hx hb dX0_show_72 (by decide) (fun h1 => ?_) (fun h1 => ?_)
    · have hc : cs_wt (cm z) (sh z) dp v k = false := by simp [cs_wt, h1]
      refine lv_iconst (v := cs_b false) hx hb dX0_show_107 (by decide) ?_
      refine lv_istore (lv' := [(6, .int (cs_b false)), (0, .ref (ad 0)), (1, .int (nI z)), (2, .int (nI v)), (5, .int (nI k))]) hx hb dX0_show_108 hl (by decide) rfl (fun ls hl => ?_)
      refine lv_iload hx hb dX0_show_110 (lv_at hl 0 rfl) ?_
      refine cs_zeq (tgt := 122) hx hb dX0_show_112 (by decide) (fun h9 => ?_) (fun h9 => absurd h9 (by decide))
      refine lv_iinc (v := nI (k + 1)) (lv' := [(5, .int (nI (k + 1))), (6, .int (cs_b false)), (0, .ref (ad 0)), (1, .int (nI z)), (2, .int (nI v))]) hx hb dX0_show_122 hl (k := 4) rfl (cs_inc _) (by decide) rfl (fun ls hl => ?_)
      refine lv_goto (tgt := 52) hx hb dX0_show_125 (by decide) ?_
      exact ih (k + 1) (by omega) H locs (by rw [cs_sl_f hc]; exact hP) (by rw [cs_sl_f hc]; exact hD) hS ls (lv_sub hl [2, 3, 4, 0] rfl)
    · refine lv_aload_n hx hb dX0_show_75 rfl (lv_at hl 0 rfl) ?_
      refine va_get (D := D) (ci := 0) (v := .ref (ad 6)) (C := RX0) (T := TX0) (N := 14) hx hb hts in_X0 hown hK hP 0 rfl rfl 6 (by decide) (hts _ q28) (fun _ h9 => h9) rfl dX0_show_76 ?_
      refine lv_iload_n hx hb dX0_show_79 rfl (lv_at hl 1 rfl) ?_
      refine cs_lald hx hb hK hP 6 1 rfl rfl (k := z) (by omega) (by decide) dX0_show_80 ?_
      refine lv_iload hx hb dX0_show_81 (lv_at hl 3 rfl) ?_
      refine cs_callRS (As := [.long (sh z), .int (nI k)]) (rest := []) ⟨hx, hb, hml, hown, hts⟩ (cs_has l D (sh z) k (by omega)) (va_cwS 2 hts (lw_S q90 q91 q12 q92) rfl rfl rfl (by decide +kernel) ⟨Nat.le_trans (Nat.le_of_ble_eq_true rfl) hR.1, Nat.le_trans (Nat.le_of_ble_eq_true rfl) hR.2⟩) cs_P0 hK hP hS hA rfl hl.1 rfl (Nat.le_of_ble_eq_true rfl) dX0_show_83 ⟨Nat.zero_le _, Nat.zero_le _⟩ (fun H locs hP hS => ?_)
      refine cs_zne (tgt := 107) hx hb dX0_show_86 (by decide) (fun h2 => ?_) (fun h2 => ?_)
      · have hc : cs_wt (cm z) (sh z) dp v k = false := by simp [cs_wt, h2]
        refine lv_iconst (v := cs_b false) hx hb dX0_show_107 (by decide) ?_
        refine lv_istore (lv' := [(6, .int (cs_b false)), (0, .ref (ad 0)), (1, .int (nI z)), (2, .int (nI v)), (5, .int (nI k))]) hx hb dX0_show_108 hl (by decide) rfl (fun ls hl => ?_)
        refine lv_iload hx hb dX0_show_110 (lv_at hl 0 rfl) ?_
        refine cs_zeq (tgt := 122) hx hb dX0_show_112 (by decide) (fun h9 => ?_) (fun h9 => absurd h9 (by decide))
        refine lv_iinc (v := nI (k + 1)) (lv' := [(5, .int (nI (k + 1))), (6, .int (cs_b false)), (0, .ref (ad 0)), (1, .int (nI z)), (2, .int (nI v))]) hx hb dX0_show_122 hl (k := 4) rfl (cs_inc _) (by decide) rfl (fun ls hl => ?_)
        refine lv_goto (tgt := 52) hx hb dX0_show_125 (by decide) ?_
        exact ih (k + 1) (by omega) H locs (by rw [cs_sl_f hc]; exact hP) (by rw [cs_sl_f hc]; exact hD) hS ls (lv_sub hl [2, 3, 4, 0] rfl)
      · refine lv_aload_n hx hb dX0_show_89 rfl (lv_at hl 0 rfl) ?_
        refine va_get (D := D) (ci := 0) (v := .ref (ad 4)) (C := RX0) (T := TX0) (N := 14) hx hb hts in_X0 hown hK hP 0 rfl rfl 4 (by decide) (hts _ q26) (fun _ h9 => h9) rfl dX0_show_90 ?_
        refine lv_iload hx hb dX0_show_93 (lv_at hl 3 rfl) ?_
        refine cs_lald hx hb hK hP 4 1 rfl rfl (k := k) (by omega) (by decide) dX0_show_95 ?_
        refine lv_iload_n hx hb dX0_show_96 rfl (lv_at hl 2 rfl) ?_
        refine cs_callRS (As := [.long (dp k), .int (nI v)]) (rest := []) ⟨hx, hb, hml, hown, hts⟩ (cs_has l D (dp k) v (by omega)) (va_cwS 2 hts (lw_S q90 q91 q12 q92) rfl rfl rfl (by decide +kernel) ⟨Nat.le_trans (Nat.le_of_ble_eq_true rfl) hR.1, Nat.le_trans (Nat.le_of_ble_eq_true rfl) hR.2⟩) cs_P0 hK hP hS hA rfl hl.1 rfl (Nat.le_of_ble_eq_true rfl) dX0_show_97 ⟨Nat.zero_le _, Nat.zero_le _⟩ (fun H locs hP hS => ?_)
        refine cs_zeq (tgt := 107) hx hb dX0_show_100 (by decide) (fun h3 => ?_) (fun h3 => ?_)
        · have hc : cs_wt (cm z) (sh z) dp v k = false := by simp [cs_wt, h3]
          refine lv_iconst (v := cs_b false) hx hb dX0_show_107 (by decide) ?_
          refine lv_istore (lv' := [(6, .int (cs_b false)), (0, .ref (ad 0)), (1, .int (nI z)), (2, .int (nI v)), (5, .int (nI k))]) hx hb dX0_show_108 hl (by decide) rfl (fun ls hl => ?_)
          refine lv_iload hx hb dX0_show_110 (lv_at hl 0 rfl) ?_
          refine cs_zeq (tgt := 122) hx hb dX0_show_112 (by decide) (fun h9 => ?_) (fun h9 => absurd h9 (by decide))
          refine lv_iinc (v := nI (k + 1)) (lv' := [(5, .int (nI (k + 1))), (6, .int (cs_b false)), (0, .ref (ad 0)), (1, .int (nI z)), (2, .int (nI v))]) hx hb dX0_show_122 hl (k := 4) rfl (cs_inc _) (by decide) rfl (fun ls hl => ?_)
          refine lv_goto (tgt := 52) hx hb dX0_show_125 (by decide) ?_
          exact ih (k + 1) (by omega) H locs (by rw [cs_sl_f hc]; exact hP) (by rw [cs_sl_f hc]; exact hD) hS ls (lv_sub hl [2, 3, 4, 0] rfl)
        · have hc : cs_wt (cm z) (sh z) dp v k = true := by simp [cs_wt, h1, h2, h3]
          refine lv_iconst (v := cs_b true) hx hb dX0_show_103 (by decide) ?_
          refine lv_goto (tgt := 108) hx hb dX0_show_104 (by decide) ?_
          refine lv_istore (lv' := [(6, .int (cs_b true)), (0, .ref (ad 0)), (1, .int (nI z)), (2, .int (nI v)), (5, .int (nI k))]) hx hb dX0_show_108 hl (by decide) rfl (fun ls hl => ?_)
          refine lv_iload hx hb dX0_show_110 (lv_at hl 0 rfl) ?_
          refine cs_zeq (tgt := 122) hx hb dX0_show_112 (by decide) (fun h9 => absurd h9 (by decide)) (fun h9 => ?_)
          refine lv_aload_n hx hb dX0_show_115 rfl (lv_at hl 1 rfl) ?_
          refine lv_iload_n hx hb dX0_show_116 rfl (lv_at hl 2 rfl) ?_
          refine lv_iload hx hb dX0_show_117 (lv_at hl 4 rfl) ?_
          refine cs_callVV (C := RX0) (As := [.int (nI z), .int (nI k)]) (rest := []) ⟨hx, hb, hml, hown, hts⟩ (cs_lower l D z k hz (by omega) (hsafe k h hc)) (cwV 2 hts (lw_V q93 q95 qs3 q12 q96) rfl rfl rfl (by decide +kernel) ⟨Nat.le_trans (Nat.le_of_ble_eq_true rfl) hR.1, Nat.le_trans (Nat.le_of_ble_eq_true rfl) hR.2⟩) (va_recv hK hP (ci := 0) (q0 := 0) rfl rfl) hK hP hD hS hA rfl hl.1 rfl (Nat.le_of_ble_eq_true rfl) dX0_show_119 ⟨Nat.zero_le _, Nat.zero_le _⟩ (fun w' H locs hq hP hD hS => ?_)
          subst hq
          refine lv_iinc (v := nI (k + 1)) (lv' := [(5, .int (nI (k + 1))), (6, .int (cs_b true)), (0, .ref (ad 0)), (1, .int (nI z)), (2, .int (nI v))]) hx hb dX0_show_122 hl (k := 4) rfl (cs_inc _) (by decide) rfl (fun ls hl => ?_)
          refine lv_goto (tgt := 52) hx hb dX0_show_125 (by decide) ?_
          exact ih (k + 1) (by omega) H locs (by rw [cs_sl_t hc]; exact hP) (by rw [cs_sl_t hc]; exact hD) hS ls (lv_sub hl [2, 3, 4, 0] rfl)

set_option maxHeartbeats 4000000 in
set_option maxRecDepth 100000 in
theorem cs_show (l : Launch) (D : va_G) {ad : Nat → Nat} {cI cJ : ClassId} {n : Nat} {ky : Nat → Nat} {vl : Nat → Int32} {sp : Nat → Int32} {dp : Nat → Int64} {cm : Nat → Int64} {sh : Nat → Int64} {lk : Nat → Int32} {bs : Nat → Option Nat} {pl : Nat → Nat} {ss : Nat → Int64} {st : Nat → Int32} {ch : Nat → Nat} {cd : Nat} (z v : Nat) (hz : z < 3) (hv : v < 40) (hn : n ≤ 40) (hky : ky v < 6) (hbs : ∀ j, bs (z * 6 + ky v) = some j → j < 40) (hsafe : ∀ k, k < n → cs_wt (cm z) ((va_up sh z (sh z ||| cs_l v)) z) dp v k = true → (cs_sl (cm z) ((va_up sh z (sh z ||| cs_l v)) z) dp z v (lk, ch, cd) k).2.2 < 40) : cs_MV l yX0_show (ws_ yX0_show cX0_show 7 none) ({ frames := 1, cells := 0, slots := 0, locals := 22 }) D vwCl (cs_wX ad cI cJ n ky vl sp dp cm sh lk bs pl ss st ch cd) (cs_tX cI cJ) [.ref (ad 0), .int (nI z), .int (nI v)] (fun w' => w' = cs_wX ad cI cJ n ky vl sp dp cm ((va_up sh z (sh z ||| cs_l v))) ((cs_sl (cm z) ((va_up sh z (sh z ||| cs_l v)) z) dp z v (lk, ch, cd) n).1) (cs_bu sp (z * 6 + ky v) v bs) pl ss st ((cs_sl (cm z) ((va_up sh z (sh z ||| cs_l v)) z) dp z v (lk, ch, cd) n).2.1) ((cs_sl (cm z) ((va_up sh z (sh z ||| cs_l v)) z) dp z v (lk, ch, cd) n).2.2)) := by
  intro sz
  refine Met.ofW (cc := cX0_show) (maxL := 7) (ret := none) (by decide) rfl ?_
  intro p e s m args below meth c s₁ B hml hv9
  obtain ⟨rfl, hsz, hP, hK, hD0⟩ := hv9
  have hx := B.exec
  have hb := B.bytes
  have hr := B.returns
  have hts := atoms_spec (ws := (ws_ yX0_show cX0_show 7 none)) B.pre
  have hts : ∀ w ∈ lw_all, w.before _ s = true := fun w h => hts w (List.mem_cons_of_mem _ h)
  have hown : s.vm.findClass RX0 = some m.cls := findClass_of_methodNamed B.named
  have hlocks := B.notSynchronized
  subst hsz
  have hD := hD0.self (sz := s.heap.size)
  generalize hAe : va_A (cs_wX ad cI cJ n ky vl sp dp cm sh lk bs pl ss st ch cd) s.heap.size = A at hD ⊢
  have hA : ∀ q : Nat, s.heap.size ≤ q → A q := fun q h => by rw [← hAe]; exact Or.inr h
  have hS : va_S A s.heap s.heap [] := va_S.rf
  have hP : va_P D vwCl (cs_wX ad cI cJ n ky vl sp dp cm sh lk bs pl ss st ch cd) s.heap := hP
  have hl := lv_entry ([.ref (ad 0), .int (nI z), .int (nI v)]) (n := 7) (Nat.le_of_ble_eq_true rfl)
  rw [lg_entry_eq]
  generalize (lg_sl ([.ref (ad 0), .int (nI z), .int (nI v)]) ++ List.replicate (7 - (lg_sl ([.ref (ad 0), .int (nI z), .int (nI v)])).length) Slot.unset).toArray = ls at hl ⊢
  have hl : lv_has ls 7 [(0, .ref (ad 0)), (1, .int (nI z)), (2, .int (nI v))] := hl
  refine lv_aload_n hx hb dX0_show_0 rfl (lv_at hl 0 rfl) ?_
  refine va_get (D := D) (ci := 0) (v := .ref (ad 6)) (C := RX0) (T := TX0) (N := 14) hx hb hts in_X0 hown hK hP 0 rfl rfl 6 (by decide) (hts _ q28) (fun _ h9 => h9) rfl dX0_show_1 ?_
  refine lv_iload_n hx hb dX0_show_4 rfl (lv_at hl 1 rfl) ?_
  refine lv_dup2_11 hx hb dX0_show_5 rfl rfl ?_
  refine cs_lald hx hb hK hP 6 1 rfl rfl (k := z) (by omega) (by decide) dX0_show_6 ?_
  refine lv_lconst (v := 1) hx hb dX0_show_7 (by decide) ?_
  refine lv_iload_n hx hb dX0_show_8 rfl (lv_at hl 2 rfl) ?_
  refine lv_lshl (v := cs_l v) hx hb dX0_show_9 rfl ?_
  refine lv_lor hx hb dX0_show_10 ?_
  refine cs_last (f := sh) (k := z) (x := (((sh z)) ||| ((cs_l v)))) hx hb hK hP hD hS 6 1 rfl rfl (by omega) (by decide) dX0_show_11 (fun H locs hP hD hS => ?_)
  have hP : va_P D vwCl (cs_wX ad cI cJ n ky vl sp dp cm (va_up sh z ((((sh z)) ||| ((cs_l v))))) lk bs pl ss st ch cd) H := hP
  have hD : va_D A (cs_wX ad cI cJ n ky vl sp dp cm (va_up sh z ((((sh z)) ||| ((cs_l v))))) lk bs pl ss st ch cd) := hD
  refine lv_iload_n hx hb dX0_show_12 rfl (lv_at hl 1 rfl) ?_
  refine lv_bipush (v := nI 6) hx hb dX0_show_13 (by decide) ?_
  refine cs_imul hx hb dX0_show_15 ?_
  refine lv_aload_n hx hb dX0_show_16 rfl (lv_at hl 0 rfl) ?_
  refine va_get (D := D) (ci := 0) (v := .ref (ad 1)) (C := RX0) (T := TX0) (N := 14) hx hb hts in_X0 hown hK hP 0 rfl rfl 1 (by decide) (hts _ q23) (fun _ h9 => h9) rfl dX0_show_17 ?_
  refine lv_iload_n hx hb dX0_show_20 rfl (lv_at hl 2 rfl) ?_
  refine cs_iald hx hb hK hP 1 0 rfl rfl (k := v) (by omega) (by decide) dX0_show_21 ?_
  refine cs_iadd hx hb dX0_show_22 ?_
  refine lv_istore_n (lv' := [(3, .int (nI ((z * 6) + (ky v)))), (0, .ref (ad 0)), (1, .int (nI z)), (2, .int (nI v))]) hx hb dX0_show_23 rfl hl (by decide) rfl (fun ls hl => ?_)
  refine lv_aload_n hx hb dX0_show_24 rfl (lv_at hl 1 rfl) ?_
  refine lv_iload_n hx hb dX0_show_25 rfl (lv_at hl 3 rfl) ?_
  refine lv_aload_n hx hb dX0_show_26 rfl (lv_at hl 1 rfl) ?_
  refine va_get (D := D) (ci := 0) (v := .ref (ad 8)) (C := RX0) (T := TX0) (N := 14) hx hb hts in_X0 hown hK hP 0 rfl rfl 8 (by decide) (hts _ q30) (fun _ h9 => h9) rfl dX0_show_27 ?_
  refine lv_iload_n hx hb dX0_show_30 rfl (lv_at hl 0 rfl) ?_
  refine cs_iald hx hb hK hP 8 0 rfl rfl (k := (z * 6) + (ky v)) (by omega) (by decide) dX0_show_31 ?_
  refine cs_callRV (C := RX0) (As := [.int (nI v), .int (cs_o (bs ((z * 6) + (ky v))))]) (rest := []) ⟨hx, hb, hml, hown, hts⟩ (cs_beats l D v (bs (z * 6 + ky v)) hv hbs) (cwV 2 hts (lw_V q86 q88 qs2 q12 q89) rfl rfl rfl (by decide +kernel) ⟨Nat.le_of_ble_eq_true rfl, Nat.le_of_ble_eq_true rfl⟩) (va_recv hK hP (ci := 0) (q0 := 0) rfl rfl) hP hK hP hS hA rfl hl.1 rfl (Nat.le_of_ble_eq_true rfl) dX0_show_32 ⟨Nat.zero_le _, Nat.zero_le _⟩ (fun H locs hP hS => ?_)
  refine lv_istore (lv' := [(4, .int (cs_b (cs_beat sp v (bs (z * 6 + ky v))))), (3, .int (nI ((z * 6) + (ky v)))), (0, .ref (ad 0)), (1, .int (nI z)), (2, .int (nI v))]) hx hb dX0_show_35 hl (by decide) rfl (fun ls hl => ?_)
  refine lv_iload hx hb dX0_show_37 (lv_at hl 0 rfl) ?_
  refine cs_zeq (tgt := 49) hx hb dX0_show_39 (by decide) (fun h => ?_) (fun h => ?_)
  · refine lv_iconst (v := nI 0) hx hb dX0_show_49 (by decide) ?_
    refine lv_istore (lv' := [(5, .int (nI 0)), (4, .int (cs_b (cs_beat sp v (bs (z * 6 + ky v))))), (3, .int (nI ((z * 6) + (ky v)))), (0, .ref (ad 0)), (1, .int (nI z)), (2, .int (nI v))]) hx hb dX0_show_50 hl (by decide) rfl (fun ls hl => ?_)
    refine cs_show_loop hx hb hml hown hts hA ⟨Nat.le_of_ble_eq_true rfl, Nat.le_of_ble_eq_true rfl⟩ hK z v hz hv hn hsafe (fun H locs hP hD hS ls hl => ?_) n 0 (by omega) _ _ hP hD hS ls (lv_sub hl [3, 4, 5, 0] rfl)
    exact W.vret hx hb hr (fun t ht hW => ⟨⟨cs_wX ad cI cJ n ky vl sp dp cm (va_up sh z ((((sh z)) ||| ((cs_l v))))) ((cs_sl (cm z) ((va_up sh z (sh z ||| cs_l v)) z) dp z v (lk, ch, cd) n).1) bs pl ss st ((cs_sl (cm z) ((va_up sh z (sh z ||| cs_l v)) z) dp z v (lk, ch, cd) n).2.1) ((cs_sl (cm z) ((va_up sh z (sh z ||| cs_l v)) z) dp z v (lk, ch, cd) n).2.2), rfl, by rw [cs_bu_f h], by rw [ht]; exact hP, hD⟩, hS.F ht⟩) hS.2.2 dX0_show_128
  · refine lv_aload_n hx hb dX0_show_42 rfl (lv_at hl 2 rfl) ?_
    refine va_get (D := D) (ci := 0) (v := .ref (ad 8)) (C := RX0) (T := TX0) (N := 14) hx hb hts in_X0 hown hK hP 0 rfl rfl 8 (by decide) (hts _ q30) (fun _ h9 => h9) rfl dX0_show_43 ?_
    refine lv_iload_n hx hb dX0_show_46 rfl (lv_at hl 1 rfl) ?_
    refine lv_iload_n hx hb dX0_show_47 rfl (lv_at hl 4 rfl) ?_
    refine cs_ti (y := (cs_o (some v))) rfl ?_
    refine cs_iastO (f := bs) (k := (z * 6) + (ky v)) (x := some v) hx hb hK hP hD hS 8 0 rfl rfl (by omega) (by decide) dX0_show_48 (fun H locs hP hD hS => ?_)
    have hP : va_P D vwCl (cs_wX ad cI cJ n ky vl sp dp cm (va_up sh z ((((sh z)) ||| ((cs_l v))))) lk (va_up bs ((z * 6) + (ky v)) (some v)) pl ss st ch cd) H := hP
    have hD : va_D A (cs_wX ad cI cJ n ky vl sp dp cm (va_up sh z ((((sh z)) ||| ((cs_l v))))) lk (va_up bs ((z * 6) + (ky v)) (some v)) pl ss st ch cd) := hD
    refine lv_iconst (v := nI 0) hx hb dX0_show_49 (by decide) ?_
    refine lv_istore (lv' := [(5, .int (nI 0)), (4, .int (cs_b (cs_beat sp v (bs (z * 6 + ky v))))), (3, .int (nI ((z * 6) + (ky v)))), (0, .ref (ad 0)), (1, .int (nI z)), (2, .int (nI v))]) hx hb dX0_show_50 hl (by decide) rfl (fun ls hl => ?_)
    refine cs_show_loop hx hb hml hown hts hA ⟨Nat.le_of_ble_eq_true rfl, Nat.le_of_ble_eq_true rfl⟩ hK z v hz hv hn hsafe (fun H locs hP hD hS ls hl => ?_) n 0 (by omega) _ _ hP hD hS ls (lv_sub hl [3, 4, 5, 0] rfl)
    exact W.vret hx hb hr (fun t ht hW => ⟨⟨cs_wX ad cI cJ n ky vl sp dp cm (va_up sh z ((((sh z)) ||| ((cs_l v))))) ((cs_sl (cm z) ((va_up sh z (sh z ||| cs_l v)) z) dp z v (lk, ch, cd) n).1) (va_up bs ((z * 6) + (ky v)) (some v)) pl ss st ((cs_sl (cm z) ((va_up sh z (sh z ||| cs_l v)) z) dp z v (lk, ch, cd) n).2.1) ((cs_sl (cm z) ((va_up sh z (sh z ||| cs_l v)) z) dp z v (lk, ch, cd) n).2.2), rfl, by rw [cs_bu_t h], by rw [ht]; exact hP, hD⟩, hS.F ht⟩) hS.2.2 dX0_show_128

set_option maxHeartbeats 4000000 in
set_option maxRecDepth 100000 in
theorem cs_arrive_loop {p : Program} {l : Launch} {e : Env} {R : Room} {s : State} {m : MethodId} {args : Array Value} {below : List Frame} {meth : Method} {c : Code} {Q : State → Prop} {D : va_G} {A : Nat → Prop} {H0 : Heap} (hx : p.tables.exec = Jvm.exec) (hb : c.code = cX0_arrive) (hml : c.maxLocals = 4) (hown : s.vm.findClass RX0 = some m.cls) (hts : ∀ w ∈ lw_all, w.before args s = true) (hA : ∀ q : Nat, H0.size ≤ q → A q) (hR : 2 ≤ R.frames ∧ 48 ≤ R.locals) {ad : Nat → Nat} {cI cJ : ClassId} (hK : va_K D vwCl (cs_tX cI cJ) s) {n : Nat} {ky : Nat → Nat} {vl : Nat → Int32} {sp : Nat → Int32} {dp : Nat → Int64} {cm : Nat → Int64} {pl : Nat → Nat} {ss : Nat → Int64} {st : Nat → Int32} (z v : Nat) (hz : z < 3) (hn : n ≤ 40) (I : Nat → (Nat → Int64) → (Nat → Int32) → (Nat → Option Nat) → (Nat → Nat) → Nat → Prop) (hI0 : ∀ i sh lk bs ch cd, I i sh lk bs ch cd → i ≤ 40 ∧ cd ≤ 40) (hI1 : ∀ i sh lk bs ch cd, I i sh lk bs ch cd → i < cd → ch i < 40 ∧ ky (ch i) < 6 ∧ (∀ j, bs (z * 6 + ky (ch i)) = some j → j < 40) ∧ (∀ k, k < n → cs_wt (cm z) ((va_up sh z (sh z ||| cs_l (ch i))) z) dp (ch i) k = true → (cs_sl (cm z) ((va_up sh z (sh z ||| cs_l (ch i))) z) dp z (ch i) (lk, ch, cd) k).2.2 < 40) ∧ I (i + 1) (va_up sh z (sh z ||| cs_l (ch i))) (cs_sl (cm z) ((va_up sh z (sh z ||| cs_l (ch i))) z) dp z (ch i) (lk, ch, cd) n).1 (cs_bu sp (z * 6 + ky (ch i)) (ch i) bs) (cs_sl (cm z) ((va_up sh z (sh z ||| cs_l (ch i))) z) dp z (ch i) (lk, ch, cd) n).2.1 (cs_sl (cm z) ((va_up sh z (sh z ||| cs_l (ch i))) z) dp z (ch i) (lk, ch, cd) n).2.2) (hend : ∀ i sh lk bs ch cd, I i sh lk bs ch cd → cd ≤ i → ∀ (H : Heap) (locs : List Loc), va_P D vwCl (cs_wX ad cI cJ n ky vl sp dp cm sh lk bs pl ss st ch cd) H → va_D A (cs_wX ad cI cJ n ky vl sp dp cm sh lk bs pl ss st ch cd) → va_S A H0 H locs → ∀ ls : Array Slot, lv_has ls 4 [(0, .ref (ad 0)), (1, .int (nI z)), (2, .int (nI v)), (3, .int (nI i))] → W p l e R s m args below meth c H locs 0 0 Q (F0 m 98 ls [])) :
    ∀ (j i : Nat), 41 ≤ i + j → ∀ (sh : Nat → Int64) (lk : Nat → Int32) (bs : Nat → Option Nat) (ch : Nat → Nat) (cd : Nat), I i sh lk bs ch cd → ∀ (H : Heap) (locs : List Loc), va_P D vwCl (cs_wX ad cI cJ n ky vl sp dp cm sh lk bs pl ss st ch cd) H → va_D A (cs_wX ad cI cJ n ky vl sp dp cm sh lk bs pl ss st ch cd) → va_S A H0 H locs → ∀ ls : Array Slot, lv_has ls 4 [(0, .ref (ad 0)), (1, .int (nI z)), (2, .int (nI v)), (3, .int (nI i))] → W p l e R s m args below meth c H locs 0 0 Q (F0 m 73 ls []) := by
  intro j
  induction j with
  | zero =>
    intro i hi sh lk bs ch cd hI
    exact absurd (hI0 i sh lk bs ch cd hI).1 (by omega)
  | succ j ih =>
    intro i hi sh lk bs ch cd hI H locs hP hD hS ls hl
    have hb40 := hI0 i sh lk bs ch cd hI
    refine lv_iload_n hx hb dX0_arrive_73 rfl (lv_at hl 3 rfl) ?_
    refine lv_aload_n hx hb dX0_arrive_74 rfl (lv_at hl 0 rfl) ?_
    refine va_get (D := D) (ci := 0) (v := .int (nI cd)) (C := RX0) (T := TX0) (N := 14) hx hb hts in_X0 hown hK hP 0 rfl rfl 13 (by decide) (hts _ q35) (fun _ h9 => h9) rfl dX0_arrive_75 ?_
    refine cs_jge (tgt := 98) hx hb dX0_arrive_78 (by decide) (by omega) (by omega) (fun h => ?_) (fun h => ?_)
    · exact hend i sh lk bs ch cd hI h H locs hP hD hS ls hl
    · obtain ⟨g1, g2, g3, g4, g5⟩ := hI1 i sh lk bs ch cd hI h
      refine lv_aload_n hx hb dX0_arrive_81 rfl (lv_at hl 0 rfl) ?_
      refine lv_iload_n hx hb dX0_arrive_82 rfl (lv_at hl 1 rfl) ?_
      refine lv_aload_n hx hb dX0_arrive_83 rfl (lv_at hl 0 rfl) ?_
      refine va_get (D := D) (ci := 0) (v := .ref (ad 12)) (C := RX0) (T := TX0) (N := 14) hx hb hts in_X0 hown hK hP 0 rfl rfl 12 (by decide) (hts _ q34) (fun _ h9 => h9) rfl dX0_arrive_84 ?_
      refine lv_iload_n hx hb dX0_arrive_87 rfl (lv_at hl 3 rfl) ?_
      refine cs_iald hx hb hK hP 12 0 rfl rfl (k := i) (by omega) (by decide) dX0_arrive_88 ?_
      refine cs_callVV (C := RX0) (As := [.int (nI z), .int (nI (ch i))]) (rest := []) ⟨hx, hb, hml, hown, hts⟩ (cs_show l D z (ch i) hz g1 hn g2 g3 g4) (cwV 2 hts (lw_V q82 q84 qs1 q12 q85) rfl rfl rfl (by decide +kernel) ⟨Nat.le_trans (Nat.le_of_ble_eq_true rfl) hR.1, Nat.le_trans (Nat.le_of_ble_eq_true rfl) hR.2⟩) (va_recv hK hP (ci := 0) (q0 := 0) rfl rfl) hK hP hD hS hA rfl hl.1 rfl (Nat.le_of_ble_eq_true rfl) dX0_arrive_89 ⟨Nat.zero_le _, Nat.zero_le _⟩ (fun w' H locs hq hP hD hS => ?_)
      subst hq
      refine lv_iinc (v := nI (i + 1)) (lv' := [(3, .int (nI (i + 1))), (0, .ref (ad 0)), (1, .int (nI z)), (2, .int (nI v))]) hx hb dX0_arrive_92 hl (k := 3) rfl (cs_inc _) (by decide) rfl (fun ls hl => ?_)
      refine lv_goto (tgt := 73) hx hb dX0_arrive_95 (by decide) ?_
      exact ih (i + 1) (by omega) _ _ _ _ _ g5 H locs hP hD hS ls (lv_sub hl [1, 2, 3, 0] rfl)

set_option maxHeartbeats 4000000 in
set_option maxRecDepth 100000 in
theorem cs_arrive (l : Launch) (D : va_G) {ad : Nat → Nat} {cI cJ : ClassId} {n : Nat} {ky : Nat → Nat} {vl : Nat → Int32} {sp : Nat → Int32} {dp : Nat → Int64} {cm : Nat → Int64} {sh : Nat → Int64} {lk : Nat → Int32} {bs : Nat → Option Nat} {pl : Nat → Nat} {ss : Nat → Int64} {st : Nat → Int32} {ch : Nat → Nat} {cd : Nat} (z v : Nat) (hz : z < 3) (hv : v < 40) (hn : n ≤ 40) (post : Int32 → va_W → Prop) (I : Nat → (Nat → Int64) → (Nat → Int32) → (Nat → Option Nat) → (Nat → Nat) → Nat → Prop) (hI0 : ∀ i sh lk bs ch cd, I i sh lk bs ch cd → i ≤ 40 ∧ cd ≤ 40) (hI1 : ∀ i sh lk bs ch cd, I i sh lk bs ch cd → i < cd → ch i < 40 ∧ ky (ch i) < 6 ∧ (∀ j, bs (z * 6 + ky (ch i)) = some j → j < 40) ∧ (∀ k, k < n → cs_wt ((va_up cm z (cm z ||| cs_l v)) z) ((va_up sh z (sh z ||| cs_l (ch i))) z) dp (ch i) k = true → (cs_sl ((va_up cm z (cm z ||| cs_l v)) z) ((va_up sh z (sh z ||| cs_l (ch i))) z) dp z (ch i) (lk, ch, cd) k).2.2 < 40) ∧ I (i + 1) (va_up sh z (sh z ||| cs_l (ch i))) (cs_sl ((va_up cm z (cm z ||| cs_l v)) z) ((va_up sh z (sh z ||| cs_l (ch i))) z) dp z (ch i) (lk, ch, cd) n).1 (cs_bu sp (z * 6 + ky (ch i)) (ch i) bs) (cs_sl ((va_up cm z (cm z ||| cs_l v)) z) ((va_up sh z (sh z ||| cs_l (ch i))) z) dp z (ch i) (lk, ch, cd) n).2.1 (cs_sl ((va_up cm z (cm z ||| cs_l v)) z) ((va_up sh z (sh z ||| cs_l (ch i))) z) dp z (ch i) (lk, ch, cd) n).2.2) (hp0 : ¬ (cs_n (cs_x (dp v &&& (sh z ^^^ (-1)))) 40) = 0 → post (nI 0) (cs_wX ad cI cJ n ky vl sp dp ((va_up cm z (cm z ||| cs_l v))) sh ((va_up lk (z * 40 + v) (nI (cs_n (cs_x (dp v &&& (sh z ^^^ (-1)))) 40)))) bs pl ss st ch cd)) (hp1 : (cs_n (cs_x (dp v &&& (sh z ^^^ (-1)))) 40) = 0 → I 0 sh (va_up lk (z * 40 + v) (nI (cs_n (cs_x (dp v &&& (sh z ^^^ (-1)))) 40))) bs (va_up ch 0 v) 1) (hp2 : ∀ i sh lk bs ch cd, I i sh lk bs ch cd → cd ≤ i → post (nI i) (cs_wX ad cI cJ n ky vl sp dp ((va_up cm z (cm z ||| cs_l v))) sh lk bs pl ss st ch cd)) : cs_MW l yX0_arrive (ws_ yX0_arrive cX0_arrive 4 (some .int)) ({ frames := 2, cells := 0, slots := 0, locals := 48 }) D vwCl (cs_wX ad cI cJ n ky vl sp dp cm sh lk bs pl ss st ch cd) (cs_tX cI cJ) [.ref (ad 0), .int (nI z), .int (nI v)] post := by
  intro sz
  refine Met.ofW (cc := cX0_arrive) (maxL := 4) (ret := (some .int)) (by decide) rfl ?_
  intro p e s m args below meth c s₁ B hml hv9
  obtain ⟨rfl, hsz, hP, hK, hD0⟩ := hv9
  have hx := B.exec
  have hb := B.bytes
  have hr := B.returns
  have hts := atoms_spec (ws := (ws_ yX0_arrive cX0_arrive 4 (some .int))) B.pre
  have hts : ∀ w ∈ lw_all, w.before _ s = true := fun w h => hts w (List.mem_cons_of_mem _ h)
  have hown : s.vm.findClass RX0 = some m.cls := findClass_of_methodNamed B.named
  have hlocks := B.notSynchronized
  subst hsz
  have hD := hD0.self (sz := s.heap.size)
  generalize hAe : va_A (cs_wX ad cI cJ n ky vl sp dp cm sh lk bs pl ss st ch cd) s.heap.size = A at hD ⊢
  have hA : ∀ q : Nat, s.heap.size ≤ q → A q := fun q h => by rw [← hAe]; exact Or.inr h
  have hS : va_S A s.heap s.heap [] := va_S.rf
  have hP : va_P D vwCl (cs_wX ad cI cJ n ky vl sp dp cm sh lk bs pl ss st ch cd) s.heap := hP
  have hl := lv_entry ([.ref (ad 0), .int (nI z), .int (nI v)]) (n := 4) (Nat.le_of_ble_eq_true rfl)
  rw [lg_entry_eq]
  generalize (lg_sl ([.ref (ad 0), .int (nI z), .int (nI v)]) ++ List.replicate (4 - (lg_sl ([.ref (ad 0), .int (nI z), .int (nI v)])).length) Slot.unset).toArray = ls at hl ⊢
  have hl : lv_has ls 4 [(0, .ref (ad 0)), (1, .int (nI z)), (2, .int (nI v))] := hl
  refine lv_aload_n hx hb dX0_arrive_0 rfl (lv_at hl 0 rfl) ?_
  refine va_get (D := D) (ci := 0) (v := .ref (ad 5)) (C := RX0) (T := TX0) (N := 14) hx hb hts in_X0 hown hK hP 0 rfl rfl 5 (by decide) (hts _ q27) (fun _ h9 => h9) rfl dX0_arrive_1 ?_
  refine lv_iload_n hx hb dX0_arrive_4 rfl (lv_at hl 1 rfl) ?_
  refine lv_dup2_11 hx hb dX0_arrive_5 rfl rfl ?_
  refine cs_lald hx hb hK hP 5 1 rfl rfl (k := z) (by omega) (by decide) dX0_arrive_6 ?_
  refine lv_lconst (v := 1) hx hb dX0_arrive_7 (by decide) ?_
  refine lv_iload_n hx hb dX0_arrive_8 rfl (lv_at hl 2 rfl) ?_
  refine lv_lshl (v := cs_l v) hx hb dX0_arrive_9 rfl ?_
  refine lv_lor hx hb dX0_arrive_10 ?_
  refine cs_last (f := cm) (k := z) (x := (((cm z)) ||| ((cs_l v)))) hx hb hK hP hD hS 5 1 rfl rfl (by omega) (by decide) dX0_arrive_11 (fun H locs hP hD hS => ?_)
  have hP : va_P D vwCl (cs_wX ad cI cJ n ky vl sp dp (va_up cm z ((((cm z)) ||| ((cs_l v))))) sh lk bs pl ss st ch cd) H := hP
  have hD : va_D A (cs_wX ad cI cJ n ky vl sp dp (va_up cm z ((((cm z)) ||| ((cs_l v))))) sh lk bs pl ss st ch cd) := hD
  refine lv_aload_n hx hb dX0_arrive_12 rfl (lv_at hl 0 rfl) ?_
  refine va_get (D := D) (ci := 0) (v := .ref (ad 7)) (C := RX0) (T := TX0) (N := 14) hx hb hts in_X0 hown hK hP 0 rfl rfl 7 (by decide) (hts _ q29) (fun _ h9 => h9) rfl dX0_arrive_13 ?_
  refine lv_iload_n hx hb dX0_arrive_16 rfl (lv_at hl 1 rfl) ?_
  refine lv_bipush (v := nI 40) hx hb dX0_arrive_17 (by decide) ?_
  refine cs_imul hx hb dX0_arrive_19 ?_
  refine lv_iload_n hx hb dX0_arrive_20 rfl (lv_at hl 2 rfl) ?_
  refine cs_iadd hx hb dX0_arrive_21 ?_
  refine lv_aload_n hx hb dX0_arrive_22 rfl (lv_at hl 0 rfl) ?_
  refine va_get (D := D) (ci := 0) (v := .ref (ad 4)) (C := RX0) (T := TX0) (N := 14) hx hb hts in_X0 hown hK hP 0 rfl rfl 4 (by decide) (hts _ q26) (fun _ h9 => h9) rfl dX0_arrive_23 ?_
  refine lv_iload_n hx hb dX0_arrive_26 rfl (lv_at hl 2 rfl) ?_
  refine cs_lald hx hb hK hP 4 1 rfl rfl (k := v) (by omega) (by decide) dX0_arrive_27 ?_
  refine lv_aload_n hx hb dX0_arrive_28 rfl (lv_at hl 0 rfl) ?_
  refine va_get (D := D) (ci := 0) (v := .ref (ad 6)) (C := RX0) (T := TX0) (N := 14) hx hb hts in_X0 hown hK hP 0 rfl rfl 6 (by decide) (hts _ q28) (fun _ h9 => h9) rfl dX0_arrive_29 ?_
  refine lv_iload_n hx hb dX0_arrive_32 rfl (lv_at hl 1 rfl) ?_
  refine cs_lald hx hb hK hP 6 1 rfl rfl (k := z) (by omega) (by decide) dX0_arrive_33 ?_
  refine lv_ldc2 (v := -1) hx hb hown (hts _ q78) dX0_arrive_34 ?_
  refine lv_lxor hx hb dX0_arrive_37 ?_
  refine lv_land hx hb dX0_arrive_38 ?_
  refine cs_callRS (As := [.long (((dp v)) &&& ((((sh z)) ^^^ ((-1)))))]) (rest := [.int (nI ((z * 40) + v)), .ref (ad 7)]) ⟨hx, hb, hml, hown, hts⟩ (cs_bits l D (dp v &&& (sh z ^^^ (-1)))) (va_cwS 1 hts (lw_S q79 q80 q12 q81) rfl rfl rfl (by decide +kernel) ⟨Nat.le_of_ble_eq_true rfl, Nat.le_of_ble_eq_true rfl⟩) cs_P0 hK hP hS hA rfl hl.1 rfl (Nat.le_of_ble_eq_true rfl) dX0_arrive_39 ⟨Nat.zero_le _, Nat.zero_le _⟩ (fun H locs hP hS => ?_)
  refine cs_iast (f := lk) (k := (z * 40) + v) (x := (nI (cs_n (cs_x (dp v &&& (sh z ^^^ (-1)))) 40))) hx hb hK hP hD hS 7 0 rfl rfl (by omega) (by decide) dX0_arrive_42 (fun H locs hP hD hS => ?_)
  have hP : va_P D vwCl (cs_wX ad cI cJ n ky vl sp dp (va_up cm z ((((cm z)) ||| ((cs_l v))))) sh (va_up lk ((z * 40) + v) ((nI (cs_n (cs_x (dp v &&& (sh z ^^^ (-1)))) 40)))) bs pl ss st ch cd) H := hP
  have hD : va_D A (cs_wX ad cI cJ n ky vl sp dp (va_up cm z ((((cm z)) ||| ((cs_l v))))) sh (va_up lk ((z * 40) + v) ((nI (cs_n (cs_x (dp v &&& (sh z ^^^ (-1)))) 40)))) bs pl ss st ch cd) := hD
  refine lv_aload_n hx hb dX0_arrive_43 rfl (lv_at hl 0 rfl) ?_
  refine va_get (D := D) (ci := 0) (v := .ref (ad 7)) (C := RX0) (T := TX0) (N := 14) hx hb hts in_X0 hown hK hP 0 rfl rfl 7 (by decide) (hts _ q29) (fun _ h9 => h9) rfl dX0_arrive_44 ?_
  refine lv_iload_n hx hb dX0_arrive_47 rfl (lv_at hl 1 rfl) ?_
  refine lv_bipush (v := nI 40) hx hb dX0_arrive_48 (by decide) ?_
  refine cs_imul hx hb dX0_arrive_50 ?_
  refine lv_iload_n hx hb dX0_arrive_51 rfl (lv_at hl 2 rfl) ?_
  refine cs_iadd hx hb dX0_arrive_52 ?_
  refine cs_iald hx hb hK hP 7 0 rfl rfl (k := (z * 40) + v) (by omega) (by decide) dX0_arrive_53 ?_
  refine cs_ti (y := (nI (cs_n (cs_x (dp v &&& (sh z ^^^ (-1)))) 40))) (va_up_self _ _ _) ?_
  have hq40 := cs_n_le (cs_x (dp v &&& (sh z ^^^ (-1)))) 40
  refine lv_if_le (tgt := 59) hx hb dX0_arrive_54 (by decide) (fun h => ?_) (fun h => ?_)
  · have hq0 : (cs_n (cs_x (dp v &&& (sh z ^^^ (-1)))) 40) = 0 := Nat.eq_zero_of_not_pos (fun q => nI_nle q (by omega) h)
    refine lv_aload_n hx hb dX0_arrive_59 rfl (lv_at hl 0 rfl) ?_
    refine va_get (D := D) (ci := 0) (v := .ref (ad 12)) (C := RX0) (T := TX0) (N := 14) hx hb hts in_X0 hown hK hP 0 rfl rfl 12 (by decide) (hts _ q34) (fun _ h9 => h9) rfl dX0_arrive_60 ?_
    refine lv_iconst (v := nI 0) hx hb dX0_arrive_63 (by decide) ?_
    refine lv_iload_n hx hb dX0_arrive_64 rfl (lv_at hl 2 rfl) ?_
    refine cs_iastN (f := ch) (k := 0) (x := v) hx hb hK hP hD hS 12 0 rfl rfl (by omega) (by decide) dX0_arrive_65 (fun H locs hP hD hS => ?_)
    have hP : va_P D vwCl (cs_wX ad cI cJ n ky vl sp dp (va_up cm z ((((cm z)) ||| ((cs_l v))))) sh (va_up lk ((z * 40) + v) ((nI (cs_n (cs_x (dp v &&& (sh z ^^^ (-1)))) 40)))) bs pl ss st (va_up ch 0 v) cd) H := hP
    have hD : va_D A (cs_wX ad cI cJ n ky vl sp dp (va_up cm z ((((cm z)) ||| ((cs_l v))))) sh (va_up lk ((z * 40) + v) ((nI (cs_n (cs_x (dp v &&& (sh z ^^^ (-1)))) 40)))) bs pl ss st (va_up ch 0 v) cd) := hD
    refine lv_aload_n hx hb dX0_arrive_66 rfl (lv_at hl 0 rfl) ?_
    refine lv_iconst (v := nI 1) hx hb dX0_arrive_67 (by decide) ?_
    refine va_put (D := D) (ci := 0) (v := .int (nI 1)) (ty := .int) (C := RX0) (T := TX0) (N := 14) hx hb hts in_X0 tyX0 tyX0_ok nmX0 hown hK hP hD hS 0 rfl rfl 13 (by decide) (hts _ q35) (fun _ h9 => h9) rfl (by decide +kernel) rfl rfl (Nat.le_of_ble_eq_true rfl) dX0_arrive_68 (fun H locs hP hD hS => ?_)
    have hP : va_P D vwCl (cs_wX ad cI cJ n ky vl sp dp (va_up cm z ((((cm z)) ||| ((cs_l v))))) sh (va_up lk ((z * 40) + v) ((nI (cs_n (cs_x (dp v &&& (sh z ^^^ (-1)))) 40)))) bs pl ss st (va_up ch 0 v) 1) H := hP
    have hD : va_D A (cs_wX ad cI cJ n ky vl sp dp (va_up cm z ((((cm z)) ||| ((cs_l v))))) sh (va_up lk ((z * 40) + v) ((nI (cs_n (cs_x (dp v &&& (sh z ^^^ (-1)))) 40)))) bs pl ss st (va_up ch 0 v) 1) := hD
    refine lv_iconst (v := nI 0) hx hb dX0_arrive_71 (by decide) ?_
    refine lv_istore_n (lv' := [(3, .int (nI 0)), (0, .ref (ad 0)), (1, .int (nI z)), (2, .int (nI v))]) hx hb dX0_arrive_72 rfl hl (by decide) rfl (fun ls hl => ?_)
    refine cs_arrive_loop (cm := (va_up cm z (cm z ||| cs_l v))) hx hb hml hown hts hA ⟨Nat.le_of_ble_eq_true rfl, Nat.le_of_ble_eq_true rfl⟩ hK z v hz hn I hI0 hI1 (fun i sh lk bs ch cd hI hle H locs hP hD hS ls hl => ?_) 41 0 (by omega) _ _ _ _ _ (hp1 hq0) _ _ hP hD hS ls (lv_sub hl [1, 2, 3, 0] rfl)
    refine lv_iload_n hx hb dX0_arrive_98 rfl (lv_at hl 3 rfl) ?_
    exact W.iret (v := (nI i)) hx hb hr (fun t ht hW => ⟨⟨(nI i), cs_wX ad cI cJ n ky vl sp dp ((va_up cm z (cm z ||| cs_l v))) sh lk bs pl ss st ch cd, rfl, hp2 i sh lk bs ch cd hI hle, by rw [ht]; exact hP, hD⟩, hS.F ht⟩) hS.2.2 dX0_arrive_99
  · have hq0 : ¬ (cs_n (cs_x (dp v &&& (sh z ^^^ (-1)))) 40) = 0 := fun q => h (by rw [q]; decide)
    refine lv_iconst (v := nI 0) hx hb dX0_arrive_57 (by decide) ?_
    exact W.iret (v := (nI 0)) hx hb hr (fun t ht hW => ⟨⟨(nI 0), cs_wX ad cI cJ n ky vl sp dp (va_up cm z ((((cm z)) ||| ((cs_l v))))) sh (va_up lk ((z * 40) + v) ((nI (cs_n (cs_x (dp v &&& (sh z ^^^ (-1)))) 40)))) bs pl ss st ch cd, rfl, hp0 hq0, by rw [ht]; exact hP, hD⟩, hS.F ht⟩) hS.2.2 dX0_arrive_58
end
section
theorem cs_badClient_t (l : Launch) (D : va_G) {tys : List (ClassId × FieldType)} {p0 : Int32} (h : cs_bad p0 = true) : cs_MR l yX0_badClient (ws_ yX0_badClient cX0_badClient 1 (some .boolean)) ({ frames := 0, cells := 0, slots := 0, locals := 0 }) D vwCl [] tys [.int p0] (cs_b true) := by
  have h9 := cs_badClient l D (tys := tys) p0
  rw [h] at h9
  exact h9

theorem cs_badClient_k (l : Launch) (D : va_G) {tys : List (ClassId × FieldType)} {k : Nat} (h : k < 3) : cs_MR l yX0_badClient (ws_ yX0_badClient cX0_badClient 1 (some .boolean)) ({ frames := 0, cells := 0, slots := 0, locals := 0 }) D vwCl [] tys [.int (nI k)] (cs_b false) := by
  have h9 := cs_badClient l D (tys := tys) (nI k)
  rw [cs_bad_k k h] at h9
  exact h9

theorem cs_badCentre_t (l : Launch) (D : va_G) {tys : List (ClassId × FieldType)} {p0 : Int32} (h : cs_bad p0 = true) : cs_MR l yX0_badCentre (ws_ yX0_badCentre cX0_badCentre 1 (some .boolean)) ({ frames := 0, cells := 0, slots := 0, locals := 0 }) D vwCl [] tys [.int p0] (cs_b true) := by
  have h9 := cs_badCentre l D (tys := tys) p0
  rw [h] at h9
  exact h9

theorem cs_badCentre_k (l : Launch) (D : va_G) {tys : List (ClassId × FieldType)} {k : Nat} (h : k < 3) : cs_MR l yX0_badCentre (ws_ yX0_badCentre cX0_badCentre 1 (some .boolean)) ({ frames := 0, cells := 0, slots := 0, locals := 0 }) D vwCl [] tys [.int (nI k)] (cs_b false) := by
  have h9 := cs_badCentre l D (tys := tys) (nI k)
  rw [cs_bad_k k h] at h9
  exact h9

theorem cs_noVersion_t (l : Launch) (D : va_G) {ad : Nat → Nat} {cI cJ : ClassId} {n : Nat} {ky : Nat → Nat} {vl : Nat → Int32} {sp : Nat → Int32} {dp : Nat → Int64} {cm : Nat → Int64} {sh : Nat → Int64} {lk : Nat → Int32} {bs : Nat → Option Nat} {pl : Nat → Nat} {ss : Nat → Int64} {st : Nat → Int32} {ch : Nat → Nat} {cd : Nat} {p0 : Int32} (h : cs_nv n p0 = true) : cs_MR l yX0_noVersion (ws_ yX0_noVersion cX0_noVersion 2 (some .boolean)) ({ frames := 0, cells := 0, slots := 0, locals := 0 }) D vwCl (cs_wX ad cI cJ n ky vl sp dp cm sh lk bs pl ss st ch cd) (cs_tX cI cJ) [.ref (ad 0), .int p0] (cs_b true) := by
  have h9 := cs_noVersion l D (ad := ad) (cI := cI) (cJ := cJ) (n := n) (ky := ky) (vl := vl) (sp := sp) (dp := dp) (cm := cm) (sh := sh) (lk := lk) (bs := bs) (pl := pl) (ss := ss) (st := st) (ch := ch) (cd := cd) p0
  rw [h] at h9
  exact h9

theorem cs_noVersion_k (l : Launch) (D : va_G) {ad : Nat → Nat} {cI cJ : ClassId} {n : Nat} {ky : Nat → Nat} {vl : Nat → Int32} {sp : Nat → Int32} {dp : Nat → Int64} {cm : Nat → Int64} {sh : Nat → Int64} {lk : Nat → Int32} {bs : Nat → Option Nat} {pl : Nat → Nat} {ss : Nat → Int64} {st : Nat → Int32} {ch : Nat → Nat} {cd : Nat} {k : Nat} (h : k < n) (hn : n ≤ 40) : cs_MR l yX0_noVersion (ws_ yX0_noVersion cX0_noVersion 2 (some .boolean)) ({ frames := 0, cells := 0, slots := 0, locals := 0 }) D vwCl (cs_wX ad cI cJ n ky vl sp dp cm sh lk bs pl ss st ch cd) (cs_tX cI cJ) [.ref (ad 0), .int (nI k)] (cs_b false) := by
  have h9 := cs_noVersion l D (ad := ad) (cI := cI) (cJ := cJ) (n := n) (ky := ky) (vl := vl) (sp := sp) (dp := dp) (cm := cm) (sh := sh) (lk := lk) (bs := bs) (pl := pl) (ss := ss) (st := st) (ch := ch) (cd := cd) (nI k)
  rw [cs_nv_k h (by omega)] at h9
  exact h9

set_option maxHeartbeats 4000000 in
set_option maxRecDepth 100000 in
theorem cs_value_1 (l : Launch) (D : va_G) {ad : Nat → Nat} {cI cJ : ClassId} {n : Nat} {ky : Nat → Nat} {vl : Nat → Int32} {sp : Nat → Int32} {dp : Nat → Int64} {cm : Nat → Int64} {sh : Nat → Int64} {lk : Nat → Int32} {bs : Nat → Option Nat} {pl : Nat → Nat} {ss : Nat → Int64} {st : Nat → Int32} {ch : Nat → Nat} {cd : Nat} {p0 : Int32} (h : cs_nv n p0 = true) : cs_MR l yX0_value (ws_ yX0_value cX0_value 2 (some .int)) ({ frames := 3, cells := 0, slots := 0, locals := 71 }) D vwCl (cs_wX ad cI cJ n ky vl sp dp cm sh lk bs pl ss st ch cd) (cs_tX cI cJ) [.ref (ad 0), .int p0] (nI 0) := by
  intro sz
  refine Met.ofW (cc := cX0_value) (maxL := 2) (ret := (some .int)) (by decide) rfl ?_
  intro p e s m args below meth c s₁ B hml hv9
  obtain ⟨rfl, hsz, hP, hK⟩ := hv9
  have hx := B.exec
  have hb := B.bytes
  have hr := B.returns
  have hts := atoms_spec (ws := (ws_ yX0_value cX0_value 2 (some .int))) B.pre
  have hts : ∀ w ∈ lw_all, w.before _ s = true := fun w h => hts w (List.mem_cons_of_mem _ h)
  have hown : s.vm.findClass RX0 = some m.cls := findClass_of_methodNamed B.named
  have hlocks := B.notSynchronized
  subst hsz
  generalize hAe : va_A [] s.heap.size = A
  have hA : ∀ q : Nat, s.heap.size ≤ q → A q := fun q h => by rw [← hAe]; exact Or.inr h
  have hS : va_S A s.heap s.heap [] := va_S.rf
  have hP : va_P D vwCl (cs_wX ad cI cJ n ky vl sp dp cm sh lk bs pl ss st ch cd) s.heap := hP
  have hl := lv_entry ([.ref (ad 0), .int p0]) (n := 2) (Nat.le_of_ble_eq_true rfl)
  rw [lg_entry_eq]
  generalize (lg_sl ([.ref (ad 0), .int p0]) ++ List.replicate (2 - (lg_sl ([.ref (ad 0), .int p0])).length) Slot.unset).toArray = ls at hl ⊢
  have hl : lv_has ls 2 [(0, .ref (ad 0)), (1, .int p0)] := hl
  refine lv_aload_n hx hb dX0_value_0 rfl (lv_at hl 0 rfl) ?_
  refine lv_iload_n hx hb dX0_value_1 rfl (lv_at hl 1 rfl) ?_
  refine cs_callRV (C := RX0) (As := [.int p0]) (rest := []) ⟨hx, hb, hml, hown, hts⟩ (cs_noVersion_t l D h) (cwV 1 hts (lw_V q116 q118 qs5 q12 q119) rfl rfl rfl (by decide +kernel) ⟨Nat.le_of_ble_eq_true rfl, Nat.le_of_ble_eq_true rfl⟩) (va_recv hK hP (ci := 0) (q0 := 0) rfl rfl) hP hK hP hS hA rfl hl.1 rfl (Nat.le_of_ble_eq_true rfl) dX0_value_2 ⟨Nat.zero_le _, Nat.zero_le _⟩ (fun H locs hP hS => ?_)
  refine cs_zeq (tgt := 12) hx hb dX0_value_5 (by decide) (fun h9 => absurd h9 (by decide)) (fun h9 => ?_)
  refine lv_iconst (v := nI 0) hx hb dX0_value_8 (by decide) ?_
  refine lv_goto (tgt := 18) hx hb dX0_value_9 (by decide) ?_
  exact W.iret (v := (nI 0)) hx hb hr (fun t ht hW => ⟨⟨(nI 0), (), rfl, rfl, trivial⟩, hS.F ht⟩) hS.2.2 dX0_value_18

set_option maxHeartbeats 4000000 in
set_option maxRecDepth 100000 in
theorem cs_value_2 (l : Launch) (D : va_G) {ad : Nat → Nat} {cI cJ : ClassId} {n : Nat} {ky : Nat → Nat} {vl : Nat → Int32} {sp : Nat → Int32} {dp : Nat → Int64} {cm : Nat → Int64} {sh : Nat → Int64} {lk : Nat → Int32} {bs : Nat → Option Nat} {pl : Nat → Nat} {ss : Nat → Int64} {st : Nat → Int32} {ch : Nat → Nat} {cd : Nat} (v : Nat) (hv : v < n) (hn : n ≤ 40) : cs_MR l yX0_value (ws_ yX0_value cX0_value 2 (some .int)) ({ frames := 3, cells := 0, slots := 0, locals := 71 }) D vwCl (cs_wX ad cI cJ n ky vl sp dp cm sh lk bs pl ss st ch cd) (cs_tX cI cJ) [.ref (ad 0), .int (nI v)] (vl v) := by
  intro sz
  refine Met.ofW (cc := cX0_value) (maxL := 2) (ret := (some .int)) (by decide) rfl ?_
  intro p e s m args below meth c s₁ B hml hv9
  obtain ⟨rfl, hsz, hP, hK⟩ := hv9
  have hx := B.exec
  have hb := B.bytes
  have hr := B.returns
  have hts := atoms_spec (ws := (ws_ yX0_value cX0_value 2 (some .int))) B.pre
  have hts : ∀ w ∈ lw_all, w.before _ s = true := fun w h => hts w (List.mem_cons_of_mem _ h)
  have hown : s.vm.findClass RX0 = some m.cls := findClass_of_methodNamed B.named
  have hlocks := B.notSynchronized
  subst hsz
  generalize hAe : va_A [] s.heap.size = A
  have hA : ∀ q : Nat, s.heap.size ≤ q → A q := fun q h => by rw [← hAe]; exact Or.inr h
  have hS : va_S A s.heap s.heap [] := va_S.rf
  have hP : va_P D vwCl (cs_wX ad cI cJ n ky vl sp dp cm sh lk bs pl ss st ch cd) s.heap := hP
  have hl := lv_entry ([.ref (ad 0), .int (nI v)]) (n := 2) (Nat.le_of_ble_eq_true rfl)
  rw [lg_entry_eq]
  generalize (lg_sl ([.ref (ad 0), .int (nI v)]) ++ List.replicate (2 - (lg_sl ([.ref (ad 0), .int (nI v)])).length) Slot.unset).toArray = ls at hl ⊢
  have hl : lv_has ls 2 [(0, .ref (ad 0)), (1, .int (nI v))] := hl
  refine lv_aload_n hx hb dX0_value_0 rfl (lv_at hl 0 rfl) ?_
  refine lv_iload_n hx hb dX0_value_1 rfl (lv_at hl 1 rfl) ?_
  refine cs_callRV (C := RX0) (As := [.int (nI v)]) (rest := []) ⟨hx, hb, hml, hown, hts⟩ (cs_noVersion_k l D hv hn) (cwV 1 hts (lw_V q116 q118 qs5 q12 q119) rfl rfl rfl (by decide +kernel) ⟨Nat.le_of_ble_eq_true rfl, Nat.le_of_ble_eq_true rfl⟩) (va_recv hK hP (ci := 0) (q0 := 0) rfl rfl) hP hK hP hS hA rfl hl.1 rfl (Nat.le_of_ble_eq_true rfl) dX0_value_2 ⟨Nat.zero_le _, Nat.zero_le _⟩ (fun H locs hP hS => ?_)
  refine cs_zeq (tgt := 12) hx hb dX0_value_5 (by decide) (fun h9 => ?_) (fun h9 => absurd h9 (by decide))
  refine lv_aload_n hx hb dX0_value_12 rfl (lv_at hl 0 rfl) ?_
  refine va_get (D := D) (ci := 0) (v := .ref (ad 2)) (C := RX0) (T := TX0) (N := 14) hx hb hts in_X0 hown hK hP 0 rfl rfl 2 (by decide) (hts _ q24) (fun _ h9 => h9) rfl dX0_value_13 ?_
  refine lv_iload_n hx hb dX0_value_16 rfl (lv_at hl 1 rfl) ?_
  refine cs_iald hx hb hK hP 2 0 rfl rfl (k := v) (by omega) (by decide) dX0_value_17 ?_
  exact W.iret (v := (vl v)) hx hb hr (fun t ht hW => ⟨⟨(vl v), (), rfl, rfl, trivial⟩, hS.F ht⟩) hS.2.2 dX0_value_18

set_option maxHeartbeats 4000000 in
set_option maxRecDepth 100000 in
theorem cs_stamp_1 (l : Launch) (D : va_G) {ad : Nat → Nat} {cI cJ : ClassId} {n : Nat} {ky : Nat → Nat} {vl : Nat → Int32} {sp : Nat → Int32} {dp : Nat → Int64} {cm : Nat → Int64} {sh : Nat → Int64} {lk : Nat → Int32} {bs : Nat → Option Nat} {pl : Nat → Nat} {ss : Nat → Int64} {st : Nat → Int32} {ch : Nat → Nat} {cd : Nat} {p0 : Int32} (h : cs_nv n p0 = true) : cs_MR l yX0_stamp (ws_ yX0_stamp cX0_stamp 2 (some .int)) ({ frames := 3, cells := 0, slots := 0, locals := 71 }) D vwCl (cs_wX ad cI cJ n ky vl sp dp cm sh lk bs pl ss st ch cd) (cs_tX cI cJ) [.ref (ad 0), .int p0] (-5) := by
  intro sz
  refine Met.ofW (cc := cX0_stamp) (maxL := 2) (ret := (some .int)) (by decide) rfl ?_
  intro p e s m args below meth c s₁ B hml hv9
  obtain ⟨rfl, hsz, hP, hK⟩ := hv9
  have hx := B.exec
  have hb := B.bytes
  have hr := B.returns
  have hts := atoms_spec (ws := (ws_ yX0_stamp cX0_stamp 2 (some .int))) B.pre
  have hts : ∀ w ∈ lw_all, w.before _ s = true := fun w h => hts w (List.mem_cons_of_mem _ h)
  have hown : s.vm.findClass RX0 = some m.cls := findClass_of_methodNamed B.named
  have hlocks := B.notSynchronized
  subst hsz
  generalize hAe : va_A [] s.heap.size = A
  have hA : ∀ q : Nat, s.heap.size ≤ q → A q := fun q h => by rw [← hAe]; exact Or.inr h
  have hS : va_S A s.heap s.heap [] := va_S.rf
  have hP : va_P D vwCl (cs_wX ad cI cJ n ky vl sp dp cm sh lk bs pl ss st ch cd) s.heap := hP
  have hl := lv_entry ([.ref (ad 0), .int p0]) (n := 2) (Nat.le_of_ble_eq_true rfl)
  rw [lg_entry_eq]
  generalize (lg_sl ([.ref (ad 0), .int p0]) ++ List.replicate (2 - (lg_sl ([.ref (ad 0), .int p0])).length) Slot.unset).toArray = ls at hl ⊢
  have hl : lv_has ls 2 [(0, .ref (ad 0)), (1, .int p0)] := hl
  refine lv_aload_n hx hb dX0_stamp_0 rfl (lv_at hl 0 rfl) ?_
  refine lv_iload_n hx hb dX0_stamp_1 rfl (lv_at hl 1 rfl) ?_
  refine cs_callRV (C := RX0) (As := [.int p0]) (rest := []) ⟨hx, hb, hml, hown, hts⟩ (cs_noVersion_t l D h) (cwV 1 hts (lw_V q116 q118 qs5 q12 q119) rfl rfl rfl (by decide +kernel) ⟨Nat.le_of_ble_eq_true rfl, Nat.le_of_ble_eq_true rfl⟩) (va_recv hK hP (ci := 0) (q0 := 0) rfl rfl) hP hK hP hS hA rfl hl.1 rfl (Nat.le_of_ble_eq_true rfl) dX0_stamp_2 ⟨Nat.zero_le _, Nat.zero_le _⟩ (fun H locs hP hS => ?_)
  refine cs_zeq (tgt := 13) hx hb dX0_stamp_5 (by decide) (fun h9 => absurd h9 (by decide)) (fun h9 => ?_)
  refine lv_bipush (v := -5) hx hb dX0_stamp_8 (by decide) ?_
  refine lv_goto (tgt := 19) hx hb dX0_stamp_10 (by decide) ?_
  exact W.iret (v := (-5)) hx hb hr (fun t ht hW => ⟨⟨(-5), (), rfl, rfl, trivial⟩, hS.F ht⟩) hS.2.2 dX0_stamp_19

set_option maxHeartbeats 4000000 in
set_option maxRecDepth 100000 in
theorem cs_stamp_2 (l : Launch) (D : va_G) {ad : Nat → Nat} {cI cJ : ClassId} {n : Nat} {ky : Nat → Nat} {vl : Nat → Int32} {sp : Nat → Int32} {dp : Nat → Int64} {cm : Nat → Int64} {sh : Nat → Int64} {lk : Nat → Int32} {bs : Nat → Option Nat} {pl : Nat → Nat} {ss : Nat → Int64} {st : Nat → Int32} {ch : Nat → Nat} {cd : Nat} (v : Nat) (hv : v < n) (hn : n ≤ 40) : cs_MR l yX0_stamp (ws_ yX0_stamp cX0_stamp 2 (some .int)) ({ frames := 3, cells := 0, slots := 0, locals := 71 }) D vwCl (cs_wX ad cI cJ n ky vl sp dp cm sh lk bs pl ss st ch cd) (cs_tX cI cJ) [.ref (ad 0), .int (nI v)] (sp v) := by
  intro sz
  refine Met.ofW (cc := cX0_stamp) (maxL := 2) (ret := (some .int)) (by decide) rfl ?_
  intro p e s m args below meth c s₁ B hml hv9
  obtain ⟨rfl, hsz, hP, hK⟩ := hv9
  have hx := B.exec
  have hb := B.bytes
  have hr := B.returns
  have hts := atoms_spec (ws := (ws_ yX0_stamp cX0_stamp 2 (some .int))) B.pre
  have hts : ∀ w ∈ lw_all, w.before _ s = true := fun w h => hts w (List.mem_cons_of_mem _ h)
  have hown : s.vm.findClass RX0 = some m.cls := findClass_of_methodNamed B.named
  have hlocks := B.notSynchronized
  subst hsz
  generalize hAe : va_A [] s.heap.size = A
  have hA : ∀ q : Nat, s.heap.size ≤ q → A q := fun q h => by rw [← hAe]; exact Or.inr h
  have hS : va_S A s.heap s.heap [] := va_S.rf
  have hP : va_P D vwCl (cs_wX ad cI cJ n ky vl sp dp cm sh lk bs pl ss st ch cd) s.heap := hP
  have hl := lv_entry ([.ref (ad 0), .int (nI v)]) (n := 2) (Nat.le_of_ble_eq_true rfl)
  rw [lg_entry_eq]
  generalize (lg_sl ([.ref (ad 0), .int (nI v)]) ++ List.replicate (2 - (lg_sl ([.ref (ad 0), .int (nI v)])).length) Slot.unset).toArray = ls at hl ⊢
  have hl : lv_has ls 2 [(0, .ref (ad 0)), (1, .int (nI v))] := hl
  refine lv_aload_n hx hb dX0_stamp_0 rfl (lv_at hl 0 rfl) ?_
  refine lv_iload_n hx hb dX0_stamp_1 rfl (lv_at hl 1 rfl) ?_
  refine cs_callRV (C := RX0) (As := [.int (nI v)]) (rest := []) ⟨hx, hb, hml, hown, hts⟩ (cs_noVersion_k l D hv hn) (cwV 1 hts (lw_V q116 q118 qs5 q12 q119) rfl rfl rfl (by decide +kernel) ⟨Nat.le_of_ble_eq_true rfl, Nat.le_of_ble_eq_true rfl⟩) (va_recv hK hP (ci := 0) (q0 := 0) rfl rfl) hP hK hP hS hA rfl hl.1 rfl (Nat.le_of_ble_eq_true rfl) dX0_stamp_2 ⟨Nat.zero_le _, Nat.zero_le _⟩ (fun H locs hP hS => ?_)
  refine cs_zeq (tgt := 13) hx hb dX0_stamp_5 (by decide) (fun h9 => ?_) (fun h9 => absurd h9 (by decide))
  refine lv_aload_n hx hb dX0_stamp_13 rfl (lv_at hl 0 rfl) ?_
  refine va_get (D := D) (ci := 0) (v := .ref (ad 3)) (C := RX0) (T := TX0) (N := 14) hx hb hts in_X0 hown hK hP 0 rfl rfl 3 (by decide) (hts _ q25) (fun _ h9 => h9) rfl dX0_stamp_14 ?_
  refine lv_iload_n hx hb dX0_stamp_17 rfl (lv_at hl 1 rfl) ?_
  refine cs_iald hx hb hK hP 3 0 rfl rfl (k := v) (by omega) (by decide) dX0_stamp_18 ?_
  exact W.iret (v := (sp v)) hx hb hr (fun t ht hW => ⟨⟨(sp v), (), rfl, rfl, trivial⟩, hS.F ht⟩) hS.2.2 dX0_stamp_19

set_option maxHeartbeats 4000000 in
set_option maxRecDepth 100000 in
theorem cs_visible_1 (l : Launch) (D : va_G) {ad : Nat → Nat} {cI cJ : ClassId} {n : Nat} {ky : Nat → Nat} {vl : Nat → Int32} {sp : Nat → Int32} {dp : Nat → Int64} {cm : Nat → Int64} {sh : Nat → Int64} {lk : Nat → Int32} {bs : Nat → Option Nat} {pl : Nat → Nat} {ss : Nat → Int64} {st : Nat → Int32} {ch : Nat → Nat} {cd : Nat} {p0 p1 : Int32} (h : cs_nv n p0 = true) : cs_MR l yX0_visible (ws_ yX0_visible cX0_visible 3 (some .boolean)) ({ frames := 3, cells := 0, slots := 0, locals := 71 }) D vwCl (cs_wX ad cI cJ n ky vl sp dp cm sh lk bs pl ss st ch cd) (cs_tX cI cJ) [.ref (ad 0), .int p0, .int p1] (cs_b false) := by
  intro sz
  refine Met.ofW (cc := cX0_visible) (maxL := 3) (ret := (some .boolean)) (by decide) rfl ?_
  intro p e s m args below meth c s₁ B hml hv9
  obtain ⟨rfl, hsz, hP, hK⟩ := hv9
  have hx := B.exec
  have hb := B.bytes
  have hr := B.returns
  have hts := atoms_spec (ws := (ws_ yX0_visible cX0_visible 3 (some .boolean))) B.pre
  have hts : ∀ w ∈ lw_all, w.before _ s = true := fun w h => hts w (List.mem_cons_of_mem _ h)
  have hown : s.vm.findClass RX0 = some m.cls := findClass_of_methodNamed B.named
  have hlocks := B.notSynchronized
  subst hsz
  generalize hAe : va_A [] s.heap.size = A
  have hA : ∀ q : Nat, s.heap.size ≤ q → A q := fun q h => by rw [← hAe]; exact Or.inr h
  have hS : va_S A s.heap s.heap [] := va_S.rf
  have hP : va_P D vwCl (cs_wX ad cI cJ n ky vl sp dp cm sh lk bs pl ss st ch cd) s.heap := hP
  have hl := lv_entry ([.ref (ad 0), .int p0, .int p1]) (n := 3) (Nat.le_of_ble_eq_true rfl)
  rw [lg_entry_eq]
  generalize (lg_sl ([.ref (ad 0), .int p0, .int p1]) ++ List.replicate (3 - (lg_sl ([.ref (ad 0), .int p0, .int p1])).length) Slot.unset).toArray = ls at hl ⊢
  have hl : lv_has ls 3 [(0, .ref (ad 0)), (1, .int p0), (2, .int p1)] := hl
  refine lv_aload_n hx hb dX0_visible_0 rfl (lv_at hl 0 rfl) ?_
  refine lv_iload_n hx hb dX0_visible_1 rfl (lv_at hl 1 rfl) ?_
  refine cs_callRV (C := RX0) (As := [.int p0]) (rest := []) ⟨hx, hb, hml, hown, hts⟩ (cs_noVersion_t l D h) (cwV 1 hts (lw_V q116 q118 qs5 q12 q119) rfl rfl rfl (by decide +kernel) ⟨Nat.le_of_ble_eq_true rfl, Nat.le_of_ble_eq_true rfl⟩) (va_recv hK hP (ci := 0) (q0 := 0) rfl rfl) hP hK hP hS hA rfl hl.1 rfl (Nat.le_of_ble_eq_true rfl) dX0_visible_2 ⟨Nat.zero_le _, Nat.zero_le _⟩ (fun H locs hP hS => ?_)
  refine cs_zne (tgt := 15) hx hb dX0_visible_5 (by decide) (fun h9 => ?_) (fun h9 => absurd h9 (by decide))
  refine lv_iconst (v := cs_b false) hx hb dX0_visible_15 (by decide) ?_
  exact W.zret (v := (cs_b false)) hx hb hr (cs_nz _) (fun t ht hW => ⟨⟨(cs_b false), (), rfl, rfl, trivial⟩, hS.F ht⟩) hS.2.2 dX0_visible_16

set_option maxHeartbeats 4000000 in
set_option maxRecDepth 100000 in
theorem cs_visible_2 (l : Launch) (D : va_G) {ad : Nat → Nat} {cI cJ : ClassId} {n : Nat} {ky : Nat → Nat} {vl : Nat → Int32} {sp : Nat → Int32} {dp : Nat → Int64} {cm : Nat → Int64} {sh : Nat → Int64} {lk : Nat → Int32} {bs : Nat → Option Nat} {pl : Nat → Nat} {ss : Nat → Int64} {st : Nat → Int32} {ch : Nat → Nat} {cd : Nat} (v : Nat) {p1 : Int32} (hv : v < n) (hn : n ≤ 40) (h : cs_bad p1 = true) : cs_MR l yX0_visible (ws_ yX0_visible cX0_visible 3 (some .boolean)) ({ frames := 3, cells := 0, slots := 0, locals := 71 }) D vwCl (cs_wX ad cI cJ n ky vl sp dp cm sh lk bs pl ss st ch cd) (cs_tX cI cJ) [.ref (ad 0), .int (nI v), .int p1] (cs_b false) := by
  intro sz
  refine Met.ofW (cc := cX0_visible) (maxL := 3) (ret := (some .boolean)) (by decide) rfl ?_
  intro p e s m args below meth c s₁ B hml hv9
  obtain ⟨rfl, hsz, hP, hK⟩ := hv9
  have hx := B.exec
  have hb := B.bytes
  have hr := B.returns
  have hts := atoms_spec (ws := (ws_ yX0_visible cX0_visible 3 (some .boolean))) B.pre
  have hts : ∀ w ∈ lw_all, w.before _ s = true := fun w h => hts w (List.mem_cons_of_mem _ h)
  have hown : s.vm.findClass RX0 = some m.cls := findClass_of_methodNamed B.named
  have hlocks := B.notSynchronized
  subst hsz
  generalize hAe : va_A [] s.heap.size = A
  have hA : ∀ q : Nat, s.heap.size ≤ q → A q := fun q h => by rw [← hAe]; exact Or.inr h
  have hS : va_S A s.heap s.heap [] := va_S.rf
  have hP : va_P D vwCl (cs_wX ad cI cJ n ky vl sp dp cm sh lk bs pl ss st ch cd) s.heap := hP
  have hl := lv_entry ([.ref (ad 0), .int (nI v), .int p1]) (n := 3) (Nat.le_of_ble_eq_true rfl)
  rw [lg_entry_eq]
  generalize (lg_sl ([.ref (ad 0), .int (nI v), .int p1]) ++ List.replicate (3 - (lg_sl ([.ref (ad 0), .int (nI v), .int p1])).length) Slot.unset).toArray = ls at hl ⊢
  have hl : lv_has ls 3 [(0, .ref (ad 0)), (1, .int (nI v)), (2, .int p1)] := hl
  refine lv_aload_n hx hb dX0_visible_0 rfl (lv_at hl 0 rfl) ?_
  refine lv_iload_n hx hb dX0_visible_1 rfl (lv_at hl 1 rfl) ?_
  refine cs_callRV (C := RX0) (As := [.int (nI v)]) (rest := []) ⟨hx, hb, hml, hown, hts⟩ (cs_noVersion_k l D hv hn) (cwV 1 hts (lw_V q116 q118 qs5 q12 q119) rfl rfl rfl (by decide +kernel) ⟨Nat.le_of_ble_eq_true rfl, Nat.le_of_ble_eq_true rfl⟩) (va_recv hK hP (ci := 0) (q0 := 0) rfl rfl) hP hK hP hS hA rfl hl.1 rfl (Nat.le_of_ble_eq_true rfl) dX0_visible_2 ⟨Nat.zero_le _, Nat.zero_le _⟩ (fun H locs hP hS => ?_)
  refine cs_zne (tgt := 15) hx hb dX0_visible_5 (by decide) (fun h9 => absurd h9 (by decide)) (fun h9 => ?_)
  refine lv_iload_n hx hb dX0_visible_8 rfl (lv_at hl 2 rfl) ?_
  refine cs_callRS (As := [.int p1]) (rest := []) ⟨hx, hb, hml, hown, hts⟩ (cs_badCentre_t l D h) (va_cwS 1 hts (lw_S q109 q110 q12 q111) rfl rfl rfl (by decide +kernel) ⟨Nat.le_of_ble_eq_true rfl, Nat.le_of_ble_eq_true rfl⟩) cs_P0 hK hP hS hA rfl hl.1 rfl (Nat.le_of_ble_eq_true rfl) dX0_visible_9 ⟨Nat.zero_le _, Nat.zero_le _⟩ (fun H locs hP hS => ?_)
  refine cs_zeq (tgt := 17) hx hb dX0_visible_12 (by decide) (fun h9 => absurd h9 (by decide)) (fun h9 => ?_)
  refine lv_iconst (v := cs_b false) hx hb dX0_visible_15 (by decide) ?_
  exact W.zret (v := (cs_b false)) hx hb hr (cs_nz _) (fun t ht hW => ⟨⟨(cs_b false), (), rfl, rfl, trivial⟩, hS.F ht⟩) hS.2.2 dX0_visible_16

set_option maxHeartbeats 4000000 in
set_option maxRecDepth 100000 in
theorem cs_visible_3 (l : Launch) (D : va_G) {ad : Nat → Nat} {cI cJ : ClassId} {n : Nat} {ky : Nat → Nat} {vl : Nat → Int32} {sp : Nat → Int32} {dp : Nat → Int64} {cm : Nat → Int64} {sh : Nat → Int64} {lk : Nat → Int32} {bs : Nat → Option Nat} {pl : Nat → Nat} {ss : Nat → Int64} {st : Nat → Int32} {ch : Nat → Nat} {cd : Nat} (v z : Nat) (hv : v < n) (hn : n ≤ 40) (hz : z < 3) : cs_MR l yX0_visible (ws_ yX0_visible cX0_visible 3 (some .boolean)) ({ frames := 3, cells := 0, slots := 0, locals := 71 }) D vwCl (cs_wX ad cI cJ n ky vl sp dp cm sh lk bs pl ss st ch cd) (cs_tX cI cJ) [.ref (ad 0), .int (nI v), .int (nI z)] (cs_b (cs_x (sh z) v)) := by
  intro sz
  refine Met.ofW (cc := cX0_visible) (maxL := 3) (ret := (some .boolean)) (by decide) rfl ?_
  intro p e s m args below meth c s₁ B hml hv9
  obtain ⟨rfl, hsz, hP, hK⟩ := hv9
  have hx := B.exec
  have hb := B.bytes
  have hr := B.returns
  have hts := atoms_spec (ws := (ws_ yX0_visible cX0_visible 3 (some .boolean))) B.pre
  have hts : ∀ w ∈ lw_all, w.before _ s = true := fun w h => hts w (List.mem_cons_of_mem _ h)
  have hown : s.vm.findClass RX0 = some m.cls := findClass_of_methodNamed B.named
  have hlocks := B.notSynchronized
  subst hsz
  generalize hAe : va_A [] s.heap.size = A
  have hA : ∀ q : Nat, s.heap.size ≤ q → A q := fun q h => by rw [← hAe]; exact Or.inr h
  have hS : va_S A s.heap s.heap [] := va_S.rf
  have hP : va_P D vwCl (cs_wX ad cI cJ n ky vl sp dp cm sh lk bs pl ss st ch cd) s.heap := hP
  have hl := lv_entry ([.ref (ad 0), .int (nI v), .int (nI z)]) (n := 3) (Nat.le_of_ble_eq_true rfl)
  rw [lg_entry_eq]
  generalize (lg_sl ([.ref (ad 0), .int (nI v), .int (nI z)]) ++ List.replicate (3 - (lg_sl ([.ref (ad 0), .int (nI v), .int (nI z)])).length) Slot.unset).toArray = ls at hl ⊢
  have hl : lv_has ls 3 [(0, .ref (ad 0)), (1, .int (nI v)), (2, .int (nI z))] := hl
  refine lv_aload_n hx hb dX0_visible_0 rfl (lv_at hl 0 rfl) ?_
  refine lv_iload_n hx hb dX0_visible_1 rfl (lv_at hl 1 rfl) ?_
  refine cs_callRV (C := RX0) (As := [.int (nI v)]) (rest := []) ⟨hx, hb, hml, hown, hts⟩ (cs_noVersion_k l D hv hn) (cwV 1 hts (lw_V q116 q118 qs5 q12 q119) rfl rfl rfl (by decide +kernel) ⟨Nat.le_of_ble_eq_true rfl, Nat.le_of_ble_eq_true rfl⟩) (va_recv hK hP (ci := 0) (q0 := 0) rfl rfl) hP hK hP hS hA rfl hl.1 rfl (Nat.le_of_ble_eq_true rfl) dX0_visible_2 ⟨Nat.zero_le _, Nat.zero_le _⟩ (fun H locs hP hS => ?_)
  refine cs_zne (tgt := 15) hx hb dX0_visible_5 (by decide) (fun h9 => absurd h9 (by decide)) (fun h9 => ?_)
  refine lv_iload_n hx hb dX0_visible_8 rfl (lv_at hl 2 rfl) ?_
  refine cs_callRS (As := [.int (nI z)]) (rest := []) ⟨hx, hb, hml, hown, hts⟩ (cs_badCentre_k l D hz) (va_cwS 1 hts (lw_S q109 q110 q12 q111) rfl rfl rfl (by decide +kernel) ⟨Nat.le_of_ble_eq_true rfl, Nat.le_of_ble_eq_true rfl⟩) cs_P0 hK hP hS hA rfl hl.1 rfl (Nat.le_of_ble_eq_true rfl) dX0_visible_9 ⟨Nat.zero_le _, Nat.zero_le _⟩ (fun H locs hP hS => ?_)
  refine cs_zeq (tgt := 17) hx hb dX0_visible_12 (by decide) (fun h9 => ?_) (fun h9 => absurd h9 (by decide))
  refine lv_aload_n hx hb dX0_visible_17 rfl (lv_at hl 0 rfl) ?_
  refine va_get (D := D) (ci := 0) (v := .ref (ad 6)) (C := RX0) (T := TX0) (N := 14) hx hb hts in_X0 hown hK hP 0 rfl rfl 6 (by decide) (hts _ q28) (fun _ h9 => h9) rfl dX0_visible_18 ?_
  refine lv_iload_n hx hb dX0_visible_21 rfl (lv_at hl 2 rfl) ?_
  refine cs_lald hx hb hK hP 6 1 rfl rfl (k := z) (by omega) (by decide) dX0_visible_22 ?_
  refine lv_iload_n hx hb dX0_visible_23 rfl (lv_at hl 1 rfl) ?_
  refine cs_callRS (As := [.long (sh z), .int (nI v)]) (rest := []) ⟨hx, hb, hml, hown, hts⟩ (cs_has l D (sh z) v (by omega)) (va_cwS 2 hts (lw_S q90 q91 q12 q92) rfl rfl rfl (by decide +kernel) ⟨Nat.le_of_ble_eq_true rfl, Nat.le_of_ble_eq_true rfl⟩) cs_P0 hK hP hS hA rfl hl.1 rfl (Nat.le_of_ble_eq_true rfl) dX0_visible_24 ⟨Nat.zero_le _, Nat.zero_le _⟩ (fun H locs hP hS => ?_)
  exact W.zret (v := (cs_b (cs_x (sh z) v))) hx hb hr (cs_nz _) (fun t ht hW => ⟨⟨(cs_b (cs_x (sh z) v)), (), rfl, rfl, trivial⟩, hS.F ht⟩) hS.2.2 dX0_visible_27

set_option maxHeartbeats 4000000 in
set_option maxRecDepth 100000 in
theorem cs_depends_1 (l : Launch) (D : va_G) {ad : Nat → Nat} {cI cJ : ClassId} {n : Nat} {ky : Nat → Nat} {vl : Nat → Int32} {sp : Nat → Int32} {dp : Nat → Int64} {cm : Nat → Int64} {sh : Nat → Int64} {lk : Nat → Int32} {bs : Nat → Option Nat} {pl : Nat → Nat} {ss : Nat → Int64} {st : Nat → Int32} {ch : Nat → Nat} {cd : Nat} {p0 p1 : Int32} (h : cs_nv n p0 = true) : cs_MR l yX0_depends (ws_ yX0_depends cX0_depends 3 (some .boolean)) ({ frames := 3, cells := 0, slots := 0, locals := 71 }) D vwCl (cs_wX ad cI cJ n ky vl sp dp cm sh lk bs pl ss st ch cd) (cs_tX cI cJ) [.ref (ad 0), .int p0, .int p1] (cs_b false) := by
  intro sz
  refine Met.ofW (cc := cX0_depends) (maxL := 3) (ret := (some .boolean)) (by decide) rfl ?_
  intro p e s m args below meth c s₁ B hml hv9
  obtain ⟨rfl, hsz, hP, hK⟩ := hv9
  have hx := B.exec
  have hb := B.bytes
  have hr := B.returns
  have hts := atoms_spec (ws := (ws_ yX0_depends cX0_depends 3 (some .boolean))) B.pre
  have hts : ∀ w ∈ lw_all, w.before _ s = true := fun w h => hts w (List.mem_cons_of_mem _ h)
  have hown : s.vm.findClass RX0 = some m.cls := findClass_of_methodNamed B.named
  have hlocks := B.notSynchronized
  subst hsz
  generalize hAe : va_A [] s.heap.size = A
  have hA : ∀ q : Nat, s.heap.size ≤ q → A q := fun q h => by rw [← hAe]; exact Or.inr h
  have hS : va_S A s.heap s.heap [] := va_S.rf
  have hP : va_P D vwCl (cs_wX ad cI cJ n ky vl sp dp cm sh lk bs pl ss st ch cd) s.heap := hP
  have hl := lv_entry ([.ref (ad 0), .int p0, .int p1]) (n := 3) (Nat.le_of_ble_eq_true rfl)
  rw [lg_entry_eq]
  generalize (lg_sl ([.ref (ad 0), .int p0, .int p1]) ++ List.replicate (3 - (lg_sl ([.ref (ad 0), .int p0, .int p1])).length) Slot.unset).toArray = ls at hl ⊢
  have hl : lv_has ls 3 [(0, .ref (ad 0)), (1, .int p0), (2, .int p1)] := hl
  refine lv_aload_n hx hb dX0_depends_0 rfl (lv_at hl 0 rfl) ?_
  refine lv_iload_n hx hb dX0_depends_1 rfl (lv_at hl 1 rfl) ?_
  refine cs_callRV (C := RX0) (As := [.int p0]) (rest := []) ⟨hx, hb, hml, hown, hts⟩ (cs_noVersion_t l D h) (cwV 1 hts (lw_V q116 q118 qs5 q12 q119) rfl rfl rfl (by decide +kernel) ⟨Nat.le_of_ble_eq_true rfl, Nat.le_of_ble_eq_true rfl⟩) (va_recv hK hP (ci := 0) (q0 := 0) rfl rfl) hP hK hP hS hA rfl hl.1 rfl (Nat.le_of_ble_eq_true rfl) dX0_depends_2 ⟨Nat.zero_le _, Nat.zero_le _⟩ (fun H locs hP hS => ?_)
  refine cs_zne (tgt := 16) hx hb dX0_depends_5 (by decide) (fun h9 => ?_) (fun h9 => absurd h9 (by decide))
  refine lv_iconst (v := cs_b false) hx hb dX0_depends_16 (by decide) ?_
  exact W.zret (v := (cs_b false)) hx hb hr (cs_nz _) (fun t ht hW => ⟨⟨(cs_b false), (), rfl, rfl, trivial⟩, hS.F ht⟩) hS.2.2 dX0_depends_17

set_option maxHeartbeats 4000000 in
set_option maxRecDepth 100000 in
theorem cs_depends_2 (l : Launch) (D : va_G) {ad : Nat → Nat} {cI cJ : ClassId} {n : Nat} {ky : Nat → Nat} {vl : Nat → Int32} {sp : Nat → Int32} {dp : Nat → Int64} {cm : Nat → Int64} {sh : Nat → Int64} {lk : Nat → Int32} {bs : Nat → Option Nat} {pl : Nat → Nat} {ss : Nat → Int64} {st : Nat → Int32} {ch : Nat → Nat} {cd : Nat} (v : Nat) {p1 : Int32} (hv : v < n) (hn : n ≤ 40) (h : cs_nv n p1 = true) : cs_MR l yX0_depends (ws_ yX0_depends cX0_depends 3 (some .boolean)) ({ frames := 3, cells := 0, slots := 0, locals := 71 }) D vwCl (cs_wX ad cI cJ n ky vl sp dp cm sh lk bs pl ss st ch cd) (cs_tX cI cJ) [.ref (ad 0), .int (nI v), .int p1] (cs_b false) := by
  intro sz
  refine Met.ofW (cc := cX0_depends) (maxL := 3) (ret := (some .boolean)) (by decide) rfl ?_
  intro p e s m args below meth c s₁ B hml hv9
  obtain ⟨rfl, hsz, hP, hK⟩ := hv9
  have hx := B.exec
  have hb := B.bytes
  have hr := B.returns
  have hts := atoms_spec (ws := (ws_ yX0_depends cX0_depends 3 (some .boolean))) B.pre
  have hts : ∀ w ∈ lw_all, w.before _ s = true := fun w h => hts w (List.mem_cons_of_mem _ h)
  have hown : s.vm.findClass RX0 = some m.cls := findClass_of_methodNamed B.named
  have hlocks := B.notSynchronized
  subst hsz
  generalize hAe : va_A [] s.heap.size = A
  have hA : ∀ q : Nat, s.heap.size ≤ q → A q := fun q h => by rw [← hAe]; exact Or.inr h
  have hS : va_S A s.heap s.heap [] := va_S.rf
  have hP : va_P D vwCl (cs_wX ad cI cJ n ky vl sp dp cm sh lk bs pl ss st ch cd) s.heap := hP
  have hl := lv_entry ([.ref (ad 0), .int (nI v), .int p1]) (n := 3) (Nat.le_of_ble_eq_true rfl)
  rw [lg_entry_eq]
  generalize (lg_sl ([.ref (ad 0), .int (nI v), .int p1]) ++ List.replicate (3 - (lg_sl ([.ref (ad 0), .int (nI v), .int p1])).length) Slot.unset).toArray = ls at hl ⊢
  have hl : lv_has ls 3 [(0, .ref (ad 0)), (1, .int (nI v)), (2, .int p1)] := hl
  refine lv_aload_n hx hb dX0_depends_0 rfl (lv_at hl 0 rfl) ?_
  refine lv_iload_n hx hb dX0_depends_1 rfl (lv_at hl 1 rfl) ?_
  refine cs_callRV (C := RX0) (As := [.int (nI v)]) (rest := []) ⟨hx, hb, hml, hown, hts⟩ (cs_noVersion_k l D hv hn) (cwV 1 hts (lw_V q116 q118 qs5 q12 q119) rfl rfl rfl (by decide +kernel) ⟨Nat.le_of_ble_eq_true rfl, Nat.le_of_ble_eq_true rfl⟩) (va_recv hK hP (ci := 0) (q0 := 0) rfl rfl) hP hK hP hS hA rfl hl.1 rfl (Nat.le_of_ble_eq_true rfl) dX0_depends_2 ⟨Nat.zero_le _, Nat.zero_le _⟩ (fun H locs hP hS => ?_)
  refine cs_zne (tgt := 16) hx hb dX0_depends_5 (by decide) (fun h9 => absurd h9 (by decide)) (fun h9 => ?_)
  refine lv_aload_n hx hb dX0_depends_8 rfl (lv_at hl 0 rfl) ?_
  refine lv_iload_n hx hb dX0_depends_9 rfl (lv_at hl 2 rfl) ?_
  refine cs_callRV (C := RX0) (As := [.int p1]) (rest := []) ⟨hx, hb, hml, hown, hts⟩ (cs_noVersion_t l D h) (cwV 1 hts (lw_V q116 q118 qs5 q12 q119) rfl rfl rfl (by decide +kernel) ⟨Nat.le_of_ble_eq_true rfl, Nat.le_of_ble_eq_true rfl⟩) (va_recv hK hP (ci := 0) (q0 := 0) rfl rfl) hP hK hP hS hA rfl hl.1 rfl (Nat.le_of_ble_eq_true rfl) dX0_depends_10 ⟨Nat.zero_le _, Nat.zero_le _⟩ (fun H locs hP hS => ?_)
  refine cs_zeq (tgt := 18) hx hb dX0_depends_13 (by decide) (fun h9 => absurd h9 (by decide)) (fun h9 => ?_)
  refine lv_iconst (v := cs_b false) hx hb dX0_depends_16 (by decide) ?_
  exact W.zret (v := (cs_b false)) hx hb hr (cs_nz _) (fun t ht hW => ⟨⟨(cs_b false), (), rfl, rfl, trivial⟩, hS.F ht⟩) hS.2.2 dX0_depends_17

set_option maxHeartbeats 4000000 in
set_option maxRecDepth 100000 in
theorem cs_depends_3 (l : Launch) (D : va_G) {ad : Nat → Nat} {cI cJ : ClassId} {n : Nat} {ky : Nat → Nat} {vl : Nat → Int32} {sp : Nat → Int32} {dp : Nat → Int64} {cm : Nat → Int64} {sh : Nat → Int64} {lk : Nat → Int32} {bs : Nat → Option Nat} {pl : Nat → Nat} {ss : Nat → Int64} {st : Nat → Int32} {ch : Nat → Nat} {cd : Nat} (v z : Nat) (hv : v < n) (hn : n ≤ 40) (hz : z < n) : cs_MR l yX0_depends (ws_ yX0_depends cX0_depends 3 (some .boolean)) ({ frames := 3, cells := 0, slots := 0, locals := 71 }) D vwCl (cs_wX ad cI cJ n ky vl sp dp cm sh lk bs pl ss st ch cd) (cs_tX cI cJ) [.ref (ad 0), .int (nI v), .int (nI z)] (cs_b (cs_x (dp v) z)) := by
  intro sz
  refine Met.ofW (cc := cX0_depends) (maxL := 3) (ret := (some .boolean)) (by decide) rfl ?_
  intro p e s m args below meth c s₁ B hml hv9
  obtain ⟨rfl, hsz, hP, hK⟩ := hv9
  have hx := B.exec
  have hb := B.bytes
  have hr := B.returns
  have hts := atoms_spec (ws := (ws_ yX0_depends cX0_depends 3 (some .boolean))) B.pre
  have hts : ∀ w ∈ lw_all, w.before _ s = true := fun w h => hts w (List.mem_cons_of_mem _ h)
  have hown : s.vm.findClass RX0 = some m.cls := findClass_of_methodNamed B.named
  have hlocks := B.notSynchronized
  subst hsz
  generalize hAe : va_A [] s.heap.size = A
  have hA : ∀ q : Nat, s.heap.size ≤ q → A q := fun q h => by rw [← hAe]; exact Or.inr h
  have hS : va_S A s.heap s.heap [] := va_S.rf
  have hP : va_P D vwCl (cs_wX ad cI cJ n ky vl sp dp cm sh lk bs pl ss st ch cd) s.heap := hP
  have hl := lv_entry ([.ref (ad 0), .int (nI v), .int (nI z)]) (n := 3) (Nat.le_of_ble_eq_true rfl)
  rw [lg_entry_eq]
  generalize (lg_sl ([.ref (ad 0), .int (nI v), .int (nI z)]) ++ List.replicate (3 - (lg_sl ([.ref (ad 0), .int (nI v), .int (nI z)])).length) Slot.unset).toArray = ls at hl ⊢
  have hl : lv_has ls 3 [(0, .ref (ad 0)), (1, .int (nI v)), (2, .int (nI z))] := hl
  refine lv_aload_n hx hb dX0_depends_0 rfl (lv_at hl 0 rfl) ?_
  refine lv_iload_n hx hb dX0_depends_1 rfl (lv_at hl 1 rfl) ?_
  refine cs_callRV (C := RX0) (As := [.int (nI v)]) (rest := []) ⟨hx, hb, hml, hown, hts⟩ (cs_noVersion_k l D hv hn) (cwV 1 hts (lw_V q116 q118 qs5 q12 q119) rfl rfl rfl (by decide +kernel) ⟨Nat.le_of_ble_eq_true rfl, Nat.le_of_ble_eq_true rfl⟩) (va_recv hK hP (ci := 0) (q0 := 0) rfl rfl) hP hK hP hS hA rfl hl.1 rfl (Nat.le_of_ble_eq_true rfl) dX0_depends_2 ⟨Nat.zero_le _, Nat.zero_le _⟩ (fun H locs hP hS => ?_)
  refine cs_zne (tgt := 16) hx hb dX0_depends_5 (by decide) (fun h9 => absurd h9 (by decide)) (fun h9 => ?_)
  refine lv_aload_n hx hb dX0_depends_8 rfl (lv_at hl 0 rfl) ?_
  refine lv_iload_n hx hb dX0_depends_9 rfl (lv_at hl 2 rfl) ?_
  refine cs_callRV (C := RX0) (As := [.int (nI z)]) (rest := []) ⟨hx, hb, hml, hown, hts⟩ (cs_noVersion_k l D hz hn) (cwV 1 hts (lw_V q116 q118 qs5 q12 q119) rfl rfl rfl (by decide +kernel) ⟨Nat.le_of_ble_eq_true rfl, Nat.le_of_ble_eq_true rfl⟩) (va_recv hK hP (ci := 0) (q0 := 0) rfl rfl) hP hK hP hS hA rfl hl.1 rfl (Nat.le_of_ble_eq_true rfl) dX0_depends_10 ⟨Nat.zero_le _, Nat.zero_le _⟩ (fun H locs hP hS => ?_)
  refine cs_zeq (tgt := 18) hx hb dX0_depends_13 (by decide) (fun h9 => ?_) (fun h9 => absurd h9 (by decide))
  refine lv_aload_n hx hb dX0_depends_18 rfl (lv_at hl 0 rfl) ?_
  refine va_get (D := D) (ci := 0) (v := .ref (ad 4)) (C := RX0) (T := TX0) (N := 14) hx hb hts in_X0 hown hK hP 0 rfl rfl 4 (by decide) (hts _ q26) (fun _ h9 => h9) rfl dX0_depends_19 ?_
  refine lv_iload_n hx hb dX0_depends_22 rfl (lv_at hl 1 rfl) ?_
  refine cs_lald hx hb hK hP 4 1 rfl rfl (k := v) (by omega) (by decide) dX0_depends_23 ?_
  refine lv_iload_n hx hb dX0_depends_24 rfl (lv_at hl 2 rfl) ?_
  refine cs_callRS (As := [.long (dp v), .int (nI z)]) (rest := []) ⟨hx, hb, hml, hown, hts⟩ (cs_has l D (dp v) z (by omega)) (va_cwS 2 hts (lw_S q90 q91 q12 q92) rfl rfl rfl (by decide +kernel) ⟨Nat.le_of_ble_eq_true rfl, Nat.le_of_ble_eq_true rfl⟩) cs_P0 hK hP hS hA rfl hl.1 rfl (Nat.le_of_ble_eq_true rfl) dX0_depends_25 ⟨Nat.zero_le _, Nat.zero_le _⟩ (fun H locs hP hS => ?_)
  exact W.zret (v := (cs_b (cs_x (dp v) z))) hx hb hr (cs_nz _) (fun t ht hW => ⟨⟨(cs_b (cs_x (dp v) z)), (), rfl, rfl, trivial⟩, hS.F ht⟩) hS.2.2 dX0_depends_28

set_option maxHeartbeats 4000000 in
set_option maxRecDepth 100000 in
theorem cs_winner_1 (l : Launch) (D : va_G) {ad : Nat → Nat} {cI cJ : ClassId} {n : Nat} {ky : Nat → Nat} {vl : Nat → Int32} {sp : Nat → Int32} {dp : Nat → Int64} {cm : Nat → Int64} {sh : Nat → Int64} {lk : Nat → Int32} {bs : Nat → Option Nat} {pl : Nat → Nat} {ss : Nat → Int64} {st : Nat → Int32} {ch : Nat → Nat} {cd : Nat} {p0 p1 : Int32} (h : cs_bad p0 = true) : cs_MR l yX0_winner (ws_ yX0_winner cX0_winner 3 (some .int)) ({ frames := 3, cells := 0, slots := 0, locals := 71 }) D vwCl (cs_wX ad cI cJ n ky vl sp dp cm sh lk bs pl ss st ch cd) (cs_tX cI cJ) [.ref (ad 0), .int p0, .int p1] (-4) := by
  intro sz
  refine Met.ofW (cc := cX0_winner) (maxL := 3) (ret := (some .int)) (by decide) rfl ?_
  intro p e s m args below meth c s₁ B hml hv9
  obtain ⟨rfl, hsz, hP, hK⟩ := hv9
  have hx := B.exec
  have hb := B.bytes
  have hr := B.returns
  have hts := atoms_spec (ws := (ws_ yX0_winner cX0_winner 3 (some .int))) B.pre
  have hts : ∀ w ∈ lw_all, w.before _ s = true := fun w h => hts w (List.mem_cons_of_mem _ h)
  have hown : s.vm.findClass RX0 = some m.cls := findClass_of_methodNamed B.named
  have hlocks := B.notSynchronized
  subst hsz
  generalize hAe : va_A [] s.heap.size = A
  have hA : ∀ q : Nat, s.heap.size ≤ q → A q := fun q h => by rw [← hAe]; exact Or.inr h
  have hS : va_S A s.heap s.heap [] := va_S.rf
  have hP : va_P D vwCl (cs_wX ad cI cJ n ky vl sp dp cm sh lk bs pl ss st ch cd) s.heap := hP
  have hl := lv_entry ([.ref (ad 0), .int p0, .int p1]) (n := 3) (Nat.le_of_ble_eq_true rfl)
  rw [lg_entry_eq]
  generalize (lg_sl ([.ref (ad 0), .int p0, .int p1]) ++ List.replicate (3 - (lg_sl ([.ref (ad 0), .int p0, .int p1])).length) Slot.unset).toArray = ls at hl ⊢
  have hl : lv_has ls 3 [(0, .ref (ad 0)), (1, .int p0), (2, .int p1)] := hl
  refine lv_iload_n hx hb dX0_winner_0 rfl (lv_at hl 1 rfl) ?_
  refine cs_callRS (As := [.int p0]) (rest := []) ⟨hx, hb, hml, hown, hts⟩ (cs_badCentre_t l D h) (va_cwS 1 hts (lw_S q109 q110 q12 q111) rfl rfl rfl (by decide +kernel) ⟨Nat.le_of_ble_eq_true rfl, Nat.le_of_ble_eq_true rfl⟩) cs_P0 hK hP hS hA rfl hl.1 rfl (Nat.le_of_ble_eq_true rfl) dX0_winner_1 ⟨Nat.zero_le _, Nat.zero_le _⟩ (fun H locs hP hS => ?_)
  refine cs_zeq (tgt := 10) hx hb dX0_winner_4 (by decide) (fun h9 => absurd h9 (by decide)) (fun h9 => ?_)
  refine lv_bipush (v := -4) hx hb dX0_winner_7 (by decide) ?_
  exact W.iret (v := (-4)) hx hb hr (fun t ht hW => ⟨⟨(-4), (), rfl, rfl, trivial⟩, hS.F ht⟩) hS.2.2 dX0_winner_9

set_option maxHeartbeats 4000000 in
set_option maxRecDepth 100000 in
theorem cs_winner_2 (l : Launch) (D : va_G) {ad : Nat → Nat} {cI cJ : ClassId} {n : Nat} {ky : Nat → Nat} {vl : Nat → Int32} {sp : Nat → Int32} {dp : Nat → Int64} {cm : Nat → Int64} {sh : Nat → Int64} {lk : Nat → Int32} {bs : Nat → Option Nat} {pl : Nat → Nat} {ss : Nat → Int64} {st : Nat → Int32} {ch : Nat → Nat} {cd : Nat} (z : Nat) {p1 : Int32} (hz : z < 3) (h : p1 < 0 ∨ ¬ p1 < 6) : cs_MR l yX0_winner (ws_ yX0_winner cX0_winner 3 (some .int)) ({ frames := 3, cells := 0, slots := 0, locals := 71 }) D vwCl (cs_wX ad cI cJ n ky vl sp dp cm sh lk bs pl ss st ch cd) (cs_tX cI cJ) [.ref (ad 0), .int (nI z), .int p1] (-2) := by
  intro sz
  refine Met.ofW (cc := cX0_winner) (maxL := 3) (ret := (some .int)) (by decide) rfl ?_
  intro p e s m args below meth c s₁ B hml hv9
  obtain ⟨rfl, hsz, hP, hK⟩ := hv9
  have hx := B.exec
  have hb := B.bytes
  have hr := B.returns
  have hts := atoms_spec (ws := (ws_ yX0_winner cX0_winner 3 (some .int))) B.pre
  have hts : ∀ w ∈ lw_all, w.before _ s = true := fun w h => hts w (List.mem_cons_of_mem _ h)
  have hown : s.vm.findClass RX0 = some m.cls := findClass_of_methodNamed B.named
  have hlocks := B.notSynchronized
  subst hsz
  generalize hAe : va_A [] s.heap.size = A
  have hA : ∀ q : Nat, s.heap.size ≤ q → A q := fun q h => by rw [← hAe]; exact Or.inr h
  have hS : va_S A s.heap s.heap [] := va_S.rf
  have hP : va_P D vwCl (cs_wX ad cI cJ n ky vl sp dp cm sh lk bs pl ss st ch cd) s.heap := hP
  have hl := lv_entry ([.ref (ad 0), .int (nI z), .int p1]) (n := 3) (Nat.le_of_ble_eq_true rfl)
  rw [lg_entry_eq]
  generalize (lg_sl ([.ref (ad 0), .int (nI z), .int p1]) ++ List.replicate (3 - (lg_sl ([.ref (ad 0), .int (nI z), .int p1])).length) Slot.unset).toArray = ls at hl ⊢
  have hl : lv_has ls 3 [(0, .ref (ad 0)), (1, .int (nI z)), (2, .int p1)] := hl
  refine lv_iload_n hx hb dX0_winner_0 rfl (lv_at hl 1 rfl) ?_
  refine cs_callRS (As := [.int (nI z)]) (rest := []) ⟨hx, hb, hml, hown, hts⟩ (cs_badCentre_k l D hz) (va_cwS 1 hts (lw_S q109 q110 q12 q111) rfl rfl rfl (by decide +kernel) ⟨Nat.le_of_ble_eq_true rfl, Nat.le_of_ble_eq_true rfl⟩) cs_P0 hK hP hS hA rfl hl.1 rfl (Nat.le_of_ble_eq_true rfl) dX0_winner_1 ⟨Nat.zero_le _, Nat.zero_le _⟩ (fun H locs hP hS => ?_)
  refine cs_zeq (tgt := 10) hx hb dX0_winner_4 (by decide) (fun h9 => ?_) (fun h9 => absurd h9 (by decide))
  refine lv_iload_n hx hb dX0_winner_10 rfl (lv_at hl 2 rfl) ?_
  refine lv_if_lt (tgt := 20) hx hb dX0_winner_11 (by decide) (fun h9 => ?_) (fun h9 => ?_)
  · refine lv_bipush (v := -2) hx hb dX0_winner_20 (by decide) ?_
    exact W.iret (v := (-2)) hx hb hr (fun t ht hW => ⟨⟨(-2), (), rfl, rfl, trivial⟩, hS.F ht⟩) hS.2.2 dX0_winner_22
  · refine lv_iload_n hx hb dX0_winner_14 rfl (lv_at hl 2 rfl) ?_
    refine lv_bipush (v := 6) hx hb dX0_winner_15 (by decide) ?_
    refine lv_icmp_lt (tgt := 23) hx hb dX0_winner_17 (by decide) (fun h8 => absurd h (fun q => q.elim h9 (fun z => z h8))) (fun h8 => ?_)
    refine lv_bipush (v := -2) hx hb dX0_winner_20 (by decide) ?_
    exact W.iret (v := (-2)) hx hb hr (fun t ht hW => ⟨⟨(-2), (), rfl, rfl, trivial⟩, hS.F ht⟩) hS.2.2 dX0_winner_22

set_option maxHeartbeats 4000000 in
set_option maxRecDepth 100000 in
theorem cs_winner_3 (l : Launch) (D : va_G) {ad : Nat → Nat} {cI cJ : ClassId} {n : Nat} {ky : Nat → Nat} {vl : Nat → Int32} {sp : Nat → Int32} {dp : Nat → Int64} {cm : Nat → Int64} {sh : Nat → Int64} {lk : Nat → Int32} {bs : Nat → Option Nat} {pl : Nat → Nat} {ss : Nat → Int64} {st : Nat → Int32} {ch : Nat → Nat} {cd : Nat} (z k : Nat) (hz : z < 3) (hk : k < 6) : cs_MR l yX0_winner (ws_ yX0_winner cX0_winner 3 (some .int)) ({ frames := 3, cells := 0, slots := 0, locals := 71 }) D vwCl (cs_wX ad cI cJ n ky vl sp dp cm sh lk bs pl ss st ch cd) (cs_tX cI cJ) [.ref (ad 0), .int (nI z), .int (nI k)] (cs_o (bs (z * 6 + k))) := by
  intro sz
  refine Met.ofW (cc := cX0_winner) (maxL := 3) (ret := (some .int)) (by decide) rfl ?_
  intro p e s m args below meth c s₁ B hml hv9
  obtain ⟨rfl, hsz, hP, hK⟩ := hv9
  have hx := B.exec
  have hb := B.bytes
  have hr := B.returns
  have hts := atoms_spec (ws := (ws_ yX0_winner cX0_winner 3 (some .int))) B.pre
  have hts : ∀ w ∈ lw_all, w.before _ s = true := fun w h => hts w (List.mem_cons_of_mem _ h)
  have hown : s.vm.findClass RX0 = some m.cls := findClass_of_methodNamed B.named
  have hlocks := B.notSynchronized
  subst hsz
  generalize hAe : va_A [] s.heap.size = A
  have hA : ∀ q : Nat, s.heap.size ≤ q → A q := fun q h => by rw [← hAe]; exact Or.inr h
  have hS : va_S A s.heap s.heap [] := va_S.rf
  have hP : va_P D vwCl (cs_wX ad cI cJ n ky vl sp dp cm sh lk bs pl ss st ch cd) s.heap := hP
  have hl := lv_entry ([.ref (ad 0), .int (nI z), .int (nI k)]) (n := 3) (Nat.le_of_ble_eq_true rfl)
  rw [lg_entry_eq]
  generalize (lg_sl ([.ref (ad 0), .int (nI z), .int (nI k)]) ++ List.replicate (3 - (lg_sl ([.ref (ad 0), .int (nI z), .int (nI k)])).length) Slot.unset).toArray = ls at hl ⊢
  have hl : lv_has ls 3 [(0, .ref (ad 0)), (1, .int (nI z)), (2, .int (nI k))] := hl
  refine lv_iload_n hx hb dX0_winner_0 rfl (lv_at hl 1 rfl) ?_
  refine cs_callRS (As := [.int (nI z)]) (rest := []) ⟨hx, hb, hml, hown, hts⟩ (cs_badCentre_k l D hz) (va_cwS 1 hts (lw_S q109 q110 q12 q111) rfl rfl rfl (by decide +kernel) ⟨Nat.le_of_ble_eq_true rfl, Nat.le_of_ble_eq_true rfl⟩) cs_P0 hK hP hS hA rfl hl.1 rfl (Nat.le_of_ble_eq_true rfl) dX0_winner_1 ⟨Nat.zero_le _, Nat.zero_le _⟩ (fun H locs hP hS => ?_)
  refine cs_zeq (tgt := 10) hx hb dX0_winner_4 (by decide) (fun h9 => ?_) (fun h9 => absurd h9 (by decide))
  refine lv_iload_n hx hb dX0_winner_10 rfl (lv_at hl 2 rfl) ?_
  refine lv_if_lt (tgt := 20) hx hb dX0_winner_11 (by decide) (fun h9 => absurd h9 (nI_pos (by omega))) (fun h9 => ?_)
  refine lv_iload_n hx hb dX0_winner_14 rfl (lv_at hl 2 rfl) ?_
  refine lv_bipush (v := nI 6) hx hb dX0_winner_15 (by decide) ?_
  refine cs_jlt (tgt := 23) hx hb dX0_winner_17 (by decide) (by omega) (by omega) (fun h8 => ?_) (fun h8 => absurd h8 (by omega))
  refine lv_aload_n hx hb dX0_winner_23 rfl (lv_at hl 0 rfl) ?_
  refine va_get (D := D) (ci := 0) (v := .ref (ad 8)) (C := RX0) (T := TX0) (N := 14) hx hb hts in_X0 hown hK hP 0 rfl rfl 8 (by decide) (hts _ q30) (fun _ h9 => h9) rfl dX0_winner_24 ?_
  refine lv_iload_n hx hb dX0_winner_27 rfl (lv_at hl 1 rfl) ?_
  refine lv_bipush (v := nI 6) hx hb dX0_winner_28 (by decide) ?_
  refine cs_imul hx hb dX0_winner_30 ?_
  refine lv_iload_n hx hb dX0_winner_31 rfl (lv_at hl 2 rfl) ?_
  refine cs_iadd hx hb dX0_winner_32 ?_
  refine cs_iald hx hb hK hP 8 0 rfl rfl (k := (z * 6) + k) (by omega) (by decide) dX0_winner_33 ?_
  exact W.iret (v := (cs_o (bs ((z * 6) + k)))) hx hb hr (fun t ht hW => ⟨⟨(cs_o (bs ((z * 6) + k))), (), rfl, rfl, trivial⟩, hS.F ht⟩) hS.2.2 dX0_winner_34

set_option maxHeartbeats 4000000 in
set_option maxRecDepth 100000 in
theorem cs_held_1 (l : Launch) (D : va_G) {ad : Nat → Nat} {cI cJ : ClassId} {n : Nat} {ky : Nat → Nat} {vl : Nat → Int32} {sp : Nat → Int32} {dp : Nat → Int64} {cm : Nat → Int64} {sh : Nat → Int64} {lk : Nat → Int32} {bs : Nat → Option Nat} {pl : Nat → Nat} {ss : Nat → Int64} {st : Nat → Int32} {ch : Nat → Nat} {cd : Nat} {p0 : Int32} (h : cs_bad p0 = true) : cs_MR l yX0_held (ws_ yX0_held cX0_held 2 (some .int)) ({ frames := 3, cells := 0, slots := 0, locals := 71 }) D vwCl (cs_wX ad cI cJ n ky vl sp dp cm sh lk bs pl ss st ch cd) (cs_tX cI cJ) [.ref (ad 0), .int p0] (-4) := by
  intro sz
  refine Met.ofW (cc := cX0_held) (maxL := 2) (ret := (some .int)) (by decide) rfl ?_
  intro p e s m args below meth c s₁ B hml hv9
  obtain ⟨rfl, hsz, hP, hK⟩ := hv9
  have hx := B.exec
  have hb := B.bytes
  have hr := B.returns
  have hts := atoms_spec (ws := (ws_ yX0_held cX0_held 2 (some .int))) B.pre
  have hts : ∀ w ∈ lw_all, w.before _ s = true := fun w h => hts w (List.mem_cons_of_mem _ h)
  have hown : s.vm.findClass RX0 = some m.cls := findClass_of_methodNamed B.named
  have hlocks := B.notSynchronized
  subst hsz
  generalize hAe : va_A [] s.heap.size = A
  have hA : ∀ q : Nat, s.heap.size ≤ q → A q := fun q h => by rw [← hAe]; exact Or.inr h
  have hS : va_S A s.heap s.heap [] := va_S.rf
  have hP : va_P D vwCl (cs_wX ad cI cJ n ky vl sp dp cm sh lk bs pl ss st ch cd) s.heap := hP
  have hl := lv_entry ([.ref (ad 0), .int p0]) (n := 2) (Nat.le_of_ble_eq_true rfl)
  rw [lg_entry_eq]
  generalize (lg_sl ([.ref (ad 0), .int p0]) ++ List.replicate (2 - (lg_sl ([.ref (ad 0), .int p0])).length) Slot.unset).toArray = ls at hl ⊢
  have hl : lv_has ls 2 [(0, .ref (ad 0)), (1, .int p0)] := hl
  refine lv_iload_n hx hb dX0_held_0 rfl (lv_at hl 1 rfl) ?_
  refine cs_callRS (As := [.int p0]) (rest := []) ⟨hx, hb, hml, hown, hts⟩ (cs_badCentre_t l D h) (va_cwS 1 hts (lw_S q109 q110 q12 q111) rfl rfl rfl (by decide +kernel) ⟨Nat.le_of_ble_eq_true rfl, Nat.le_of_ble_eq_true rfl⟩) cs_P0 hK hP hS hA rfl hl.1 rfl (Nat.le_of_ble_eq_true rfl) dX0_held_1 ⟨Nat.zero_le _, Nat.zero_le _⟩ (fun H locs hP hS => ?_)
  refine cs_zeq (tgt := 10) hx hb dX0_held_4 (by decide) (fun h9 => absurd h9 (by decide)) (fun h9 => ?_)
  refine lv_bipush (v := -4) hx hb dX0_held_7 (by decide) ?_
  exact W.iret (v := (-4)) hx hb hr (fun t ht hW => ⟨⟨(-4), (), rfl, rfl, trivial⟩, hS.F ht⟩) hS.2.2 dX0_held_9

set_option maxHeartbeats 4000000 in
set_option maxRecDepth 100000 in
theorem cs_held_2 (l : Launch) (D : va_G) {ad : Nat → Nat} {cI cJ : ClassId} {n : Nat} {ky : Nat → Nat} {vl : Nat → Int32} {sp : Nat → Int32} {dp : Nat → Int64} {cm : Nat → Int64} {sh : Nat → Int64} {lk : Nat → Int32} {bs : Nat → Option Nat} {pl : Nat → Nat} {ss : Nat → Int64} {st : Nat → Int32} {ch : Nat → Nat} {cd : Nat} (z : Nat) (hz : z < 3) : cs_MR l yX0_held (ws_ yX0_held cX0_held 2 (some .int)) ({ frames := 3, cells := 0, slots := 0, locals := 71 }) D vwCl (cs_wX ad cI cJ n ky vl sp dp cm sh lk bs pl ss st ch cd) (cs_tX cI cJ) [.ref (ad 0), .int (nI z)] (nI (cs_n (cs_x (cm z &&& (sh z ^^^ (-1)))) 40)) := by
  intro sz
  refine Met.ofW (cc := cX0_held) (maxL := 2) (ret := (some .int)) (by decide) rfl ?_
  intro p e s m args below meth c s₁ B hml hv9
  obtain ⟨rfl, hsz, hP, hK⟩ := hv9
  have hx := B.exec
  have hb := B.bytes
  have hr := B.returns
  have hts := atoms_spec (ws := (ws_ yX0_held cX0_held 2 (some .int))) B.pre
  have hts : ∀ w ∈ lw_all, w.before _ s = true := fun w h => hts w (List.mem_cons_of_mem _ h)
  have hown : s.vm.findClass RX0 = some m.cls := findClass_of_methodNamed B.named
  have hlocks := B.notSynchronized
  subst hsz
  generalize hAe : va_A [] s.heap.size = A
  have hA : ∀ q : Nat, s.heap.size ≤ q → A q := fun q h => by rw [← hAe]; exact Or.inr h
  have hS : va_S A s.heap s.heap [] := va_S.rf
  have hP : va_P D vwCl (cs_wX ad cI cJ n ky vl sp dp cm sh lk bs pl ss st ch cd) s.heap := hP
  have hl := lv_entry ([.ref (ad 0), .int (nI z)]) (n := 2) (Nat.le_of_ble_eq_true rfl)
  rw [lg_entry_eq]
  generalize (lg_sl ([.ref (ad 0), .int (nI z)]) ++ List.replicate (2 - (lg_sl ([.ref (ad 0), .int (nI z)])).length) Slot.unset).toArray = ls at hl ⊢
  have hl : lv_has ls 2 [(0, .ref (ad 0)), (1, .int (nI z))] := hl
  refine lv_iload_n hx hb dX0_held_0 rfl (lv_at hl 1 rfl) ?_
  refine cs_callRS (As := [.int (nI z)]) (rest := []) ⟨hx, hb, hml, hown, hts⟩ (cs_badCentre_k l D hz) (va_cwS 1 hts (lw_S q109 q110 q12 q111) rfl rfl rfl (by decide +kernel) ⟨Nat.le_of_ble_eq_true rfl, Nat.le_of_ble_eq_true rfl⟩) cs_P0 hK hP hS hA rfl hl.1 rfl (Nat.le_of_ble_eq_true rfl) dX0_held_1 ⟨Nat.zero_le _, Nat.zero_le _⟩ (fun H locs hP hS => ?_)
  refine cs_zeq (tgt := 10) hx hb dX0_held_4 (by decide) (fun h9 => ?_) (fun h9 => absurd h9 (by decide))
  refine lv_aload_n hx hb dX0_held_10 rfl (lv_at hl 0 rfl) ?_
  refine va_get (D := D) (ci := 0) (v := .ref (ad 5)) (C := RX0) (T := TX0) (N := 14) hx hb hts in_X0 hown hK hP 0 rfl rfl 5 (by decide) (hts _ q27) (fun _ h9 => h9) rfl dX0_held_11 ?_
  refine lv_iload_n hx hb dX0_held_14 rfl (lv_at hl 1 rfl) ?_
  refine cs_lald hx hb hK hP 5 1 rfl rfl (k := z) (by omega) (by decide) dX0_held_15 ?_
  refine lv_aload_n hx hb dX0_held_16 rfl (lv_at hl 0 rfl) ?_
  refine va_get (D := D) (ci := 0) (v := .ref (ad 6)) (C := RX0) (T := TX0) (N := 14) hx hb hts in_X0 hown hK hP 0 rfl rfl 6 (by decide) (hts _ q28) (fun _ h9 => h9) rfl dX0_held_17 ?_
  refine lv_iload_n hx hb dX0_held_20 rfl (lv_at hl 1 rfl) ?_
  refine cs_lald hx hb hK hP 6 1 rfl rfl (k := z) (by omega) (by decide) dX0_held_21 ?_
  refine lv_ldc2 (v := -1) hx hb hown (hts _ q78) dX0_held_22 ?_
  refine lv_lxor hx hb dX0_held_25 ?_
  refine lv_land hx hb dX0_held_26 ?_
  refine cs_callRS (As := [.long (((cm z)) &&& ((((sh z)) ^^^ ((-1)))))]) (rest := []) ⟨hx, hb, hml, hown, hts⟩ (cs_bits l D (cm z &&& (sh z ^^^ (-1)))) (va_cwS 1 hts (lw_S q79 q80 q12 q81) rfl rfl rfl (by decide +kernel) ⟨Nat.le_of_ble_eq_true rfl, Nat.le_of_ble_eq_true rfl⟩) cs_P0 hK hP hS hA rfl hl.1 rfl (Nat.le_of_ble_eq_true rfl) dX0_held_27 ⟨Nat.zero_le _, Nat.zero_le _⟩ (fun H locs hP hS => ?_)
  exact W.iret (v := (nI (cs_n (cs_x (cm z &&& (sh z ^^^ (-1)))) 40))) hx hb hr (fun t ht hW => ⟨⟨(nI (cs_n (cs_x (cm z &&& (sh z ^^^ (-1)))) 40)), (), rfl, rfl, trivial⟩, hS.F ht⟩) hS.2.2 dX0_held_30

set_option maxHeartbeats 4000000 in
set_option maxRecDepth 100000 in
theorem cs_seen_1 (l : Launch) (D : va_G) {ad : Nat → Nat} {cI cJ : ClassId} {n : Nat} {ky : Nat → Nat} {vl : Nat → Int32} {sp : Nat → Int32} {dp : Nat → Int64} {cm : Nat → Int64} {sh : Nat → Int64} {lk : Nat → Int32} {bs : Nat → Option Nat} {pl : Nat → Nat} {ss : Nat → Int64} {st : Nat → Int32} {ch : Nat → Nat} {cd : Nat} {p0 : Int32} (h : cs_bad p0 = true) : cs_MR l yX0_seen (ws_ yX0_seen cX0_seen 2 (some .int)) ({ frames := 3, cells := 0, slots := 0, locals := 71 }) D vwCl (cs_wX ad cI cJ n ky vl sp dp cm sh lk bs pl ss st ch cd) (cs_tX cI cJ) [.ref (ad 0), .int p0] (-1) := by
  intro sz
  refine Met.ofW (cc := cX0_seen) (maxL := 2) (ret := (some .int)) (by decide) rfl ?_
  intro p e s m args below meth c s₁ B hml hv9
  obtain ⟨rfl, hsz, hP, hK⟩ := hv9
  have hx := B.exec
  have hb := B.bytes
  have hr := B.returns
  have hts := atoms_spec (ws := (ws_ yX0_seen cX0_seen 2 (some .int))) B.pre
  have hts : ∀ w ∈ lw_all, w.before _ s = true := fun w h => hts w (List.mem_cons_of_mem _ h)
  have hown : s.vm.findClass RX0 = some m.cls := findClass_of_methodNamed B.named
  have hlocks := B.notSynchronized
  subst hsz
  generalize hAe : va_A [] s.heap.size = A
  have hA : ∀ q : Nat, s.heap.size ≤ q → A q := fun q h => by rw [← hAe]; exact Or.inr h
  have hS : va_S A s.heap s.heap [] := va_S.rf
  have hP : va_P D vwCl (cs_wX ad cI cJ n ky vl sp dp cm sh lk bs pl ss st ch cd) s.heap := hP
  have hl := lv_entry ([.ref (ad 0), .int p0]) (n := 2) (Nat.le_of_ble_eq_true rfl)
  rw [lg_entry_eq]
  generalize (lg_sl ([.ref (ad 0), .int p0]) ++ List.replicate (2 - (lg_sl ([.ref (ad 0), .int p0])).length) Slot.unset).toArray = ls at hl ⊢
  have hl : lv_has ls 2 [(0, .ref (ad 0)), (1, .int p0)] := hl
  refine lv_iload_n hx hb dX0_seen_0 rfl (lv_at hl 1 rfl) ?_
  refine cs_callRS (As := [.int p0]) (rest := []) ⟨hx, hb, hml, hown, hts⟩ (cs_badClient_t l D h) (va_cwS 1 hts (lw_S q71 q72 q12 q73) rfl rfl rfl (by decide +kernel) ⟨Nat.le_of_ble_eq_true rfl, Nat.le_of_ble_eq_true rfl⟩) cs_P0 hK hP hS hA rfl hl.1 rfl (Nat.le_of_ble_eq_true rfl) dX0_seen_1 ⟨Nat.zero_le _, Nat.zero_le _⟩ (fun H locs hP hS => ?_)
  refine cs_zeq (tgt := 9) hx hb dX0_seen_4 (by decide) (fun h9 => absurd h9 (by decide)) (fun h9 => ?_)
  refine lv_iconst (v := -1) hx hb dX0_seen_7 (by decide) ?_
  exact W.iret (v := (-1)) hx hb hr (fun t ht hW => ⟨⟨(-1), (), rfl, rfl, trivial⟩, hS.F ht⟩) hS.2.2 dX0_seen_8

set_option maxHeartbeats 4000000 in
set_option maxRecDepth 100000 in
theorem cs_seen_2 (l : Launch) (D : va_G) {ad : Nat → Nat} {cI cJ : ClassId} {n : Nat} {ky : Nat → Nat} {vl : Nat → Int32} {sp : Nat → Int32} {dp : Nat → Int64} {cm : Nat → Int64} {sh : Nat → Int64} {lk : Nat → Int32} {bs : Nat → Option Nat} {pl : Nat → Nat} {ss : Nat → Int64} {st : Nat → Int32} {ch : Nat → Nat} {cd : Nat} (z : Nat) (hz : z < 3) : cs_MR l yX0_seen (ws_ yX0_seen cX0_seen 2 (some .int)) ({ frames := 3, cells := 0, slots := 0, locals := 71 }) D vwCl (cs_wX ad cI cJ n ky vl sp dp cm sh lk bs pl ss st ch cd) (cs_tX cI cJ) [.ref (ad 0), .int (nI z)] (nI (cs_n (cs_x (ss z)) 40)) := by
  intro sz
  refine Met.ofW (cc := cX0_seen) (maxL := 2) (ret := (some .int)) (by decide) rfl ?_
  intro p e s m args below meth c s₁ B hml hv9
  obtain ⟨rfl, hsz, hP, hK⟩ := hv9
  have hx := B.exec
  have hb := B.bytes
  have hr := B.returns
  have hts := atoms_spec (ws := (ws_ yX0_seen cX0_seen 2 (some .int))) B.pre
  have hts : ∀ w ∈ lw_all, w.before _ s = true := fun w h => hts w (List.mem_cons_of_mem _ h)
  have hown : s.vm.findClass RX0 = some m.cls := findClass_of_methodNamed B.named
  have hlocks := B.notSynchronized
  subst hsz
  generalize hAe : va_A [] s.heap.size = A
  have hA : ∀ q : Nat, s.heap.size ≤ q → A q := fun q h => by rw [← hAe]; exact Or.inr h
  have hS : va_S A s.heap s.heap [] := va_S.rf
  have hP : va_P D vwCl (cs_wX ad cI cJ n ky vl sp dp cm sh lk bs pl ss st ch cd) s.heap := hP
  have hl := lv_entry ([.ref (ad 0), .int (nI z)]) (n := 2) (Nat.le_of_ble_eq_true rfl)
  rw [lg_entry_eq]
  generalize (lg_sl ([.ref (ad 0), .int (nI z)]) ++ List.replicate (2 - (lg_sl ([.ref (ad 0), .int (nI z)])).length) Slot.unset).toArray = ls at hl ⊢
  have hl : lv_has ls 2 [(0, .ref (ad 0)), (1, .int (nI z))] := hl
  refine lv_iload_n hx hb dX0_seen_0 rfl (lv_at hl 1 rfl) ?_
  refine cs_callRS (As := [.int (nI z)]) (rest := []) ⟨hx, hb, hml, hown, hts⟩ (cs_badClient_k l D hz) (va_cwS 1 hts (lw_S q71 q72 q12 q73) rfl rfl rfl (by decide +kernel) ⟨Nat.le_of_ble_eq_true rfl, Nat.le_of_ble_eq_true rfl⟩) cs_P0 hK hP hS hA rfl hl.1 rfl (Nat.le_of_ble_eq_true rfl) dX0_seen_1 ⟨Nat.zero_le _, Nat.zero_le _⟩ (fun H locs hP hS => ?_)
  refine cs_zeq (tgt := 9) hx hb dX0_seen_4 (by decide) (fun h9 => ?_) (fun h9 => absurd h9 (by decide))
  refine lv_aload_n hx hb dX0_seen_9 rfl (lv_at hl 0 rfl) ?_
  refine va_get (D := D) (ci := 0) (v := .ref (ad 10)) (C := RX0) (T := TX0) (N := 14) hx hb hts in_X0 hown hK hP 0 rfl rfl 10 (by decide) (hts _ q32) (fun _ h9 => h9) rfl dX0_seen_10 ?_
  refine lv_iload_n hx hb dX0_seen_13 rfl (lv_at hl 1 rfl) ?_
  refine cs_lald hx hb hK hP 10 1 rfl rfl (k := z) (by omega) (by decide) dX0_seen_14 ?_
  refine cs_callRS (As := [.long (ss z)]) (rest := []) ⟨hx, hb, hml, hown, hts⟩ (cs_bits l D (ss z)) (va_cwS 1 hts (lw_S q79 q80 q12 q81) rfl rfl rfl (by decide +kernel) ⟨Nat.le_of_ble_eq_true rfl, Nat.le_of_ble_eq_true rfl⟩) cs_P0 hK hP hS hA rfl hl.1 rfl (Nat.le_of_ble_eq_true rfl) dX0_seen_15 ⟨Nat.zero_le _, Nat.zero_le _⟩ (fun H locs hP hS => ?_)
  exact W.iret (v := (nI (cs_n (cs_x (ss z)) 40))) hx hb hr (fun t ht hW => ⟨⟨(nI (cs_n (cs_x (ss z)) 40)), (), rfl, rfl, trivial⟩, hS.F ht⟩) hS.2.2 dX0_seen_18

set_option maxHeartbeats 4000000 in
set_option maxRecDepth 100000 in
theorem cs_agree_1 (l : Launch) (D : va_G) {ad : Nat → Nat} {cI cJ : ClassId} {n : Nat} {ky : Nat → Nat} {vl : Nat → Int32} {sp : Nat → Int32} {dp : Nat → Int64} {cm : Nat → Int64} {sh : Nat → Int64} {lk : Nat → Int32} {bs : Nat → Option Nat} {pl : Nat → Nat} {ss : Nat → Int64} {st : Nat → Int32} {ch : Nat → Nat} {cd : Nat} {p0 p1 : Int32} (h : cs_bad p0 = true) : cs_MR l yX0_agree (ws_ yX0_agree cX0_agree 5 (some .int)) ({ frames := 3, cells := 0, slots := 0, locals := 71 }) D vwCl (cs_wX ad cI cJ n ky vl sp dp cm sh lk bs pl ss st ch cd) (cs_tX cI cJ) [.ref (ad 0), .int p0, .int p1] (-4) := by
  intro sz
  refine Met.ofW (cc := cX0_agree) (maxL := 5) (ret := (some .int)) (by decide) rfl ?_
  intro p e s m args below meth c s₁ B hml hv9
  obtain ⟨rfl, hsz, hP, hK⟩ := hv9
  have hx := B.exec
  have hb := B.bytes
  have hr := B.returns
  have hts := atoms_spec (ws := (ws_ yX0_agree cX0_agree 5 (some .int))) B.pre
  have hts : ∀ w ∈ lw_all, w.before _ s = true := fun w h => hts w (List.mem_cons_of_mem _ h)
  have hown : s.vm.findClass RX0 = some m.cls := findClass_of_methodNamed B.named
  have hlocks := B.notSynchronized
  subst hsz
  generalize hAe : va_A [] s.heap.size = A
  have hA : ∀ q : Nat, s.heap.size ≤ q → A q := fun q h => by rw [← hAe]; exact Or.inr h
  have hS : va_S A s.heap s.heap [] := va_S.rf
  have hP : va_P D vwCl (cs_wX ad cI cJ n ky vl sp dp cm sh lk bs pl ss st ch cd) s.heap := hP
  have hl := lv_entry ([.ref (ad 0), .int p0, .int p1]) (n := 5) (Nat.le_of_ble_eq_true rfl)
  rw [lg_entry_eq]
  generalize (lg_sl ([.ref (ad 0), .int p0, .int p1]) ++ List.replicate (5 - (lg_sl ([.ref (ad 0), .int p0, .int p1])).length) Slot.unset).toArray = ls at hl ⊢
  have hl : lv_has ls 5 [(0, .ref (ad 0)), (1, .int p0), (2, .int p1)] := hl
  refine lv_iload_n hx hb dX0_agree_0 rfl (lv_at hl 1 rfl) ?_
  refine cs_callRS (As := [.int p0]) (rest := []) ⟨hx, hb, hml, hown, hts⟩ (cs_badCentre_t l D h) (va_cwS 1 hts (lw_S q109 q110 q12 q111) rfl rfl rfl (by decide +kernel) ⟨Nat.le_of_ble_eq_true rfl, Nat.le_of_ble_eq_true rfl⟩) cs_P0 hK hP hS hA rfl hl.1 rfl (Nat.le_of_ble_eq_true rfl) dX0_agree_1 ⟨Nat.zero_le _, Nat.zero_le _⟩ (fun H locs hP hS => ?_)
  refine cs_zne (tgt := 14) hx hb dX0_agree_4 (by decide) (fun h9 => ?_) (fun h9 => absurd h9 (by decide))
  refine lv_bipush (v := -4) hx hb dX0_agree_14 (by decide) ?_
  exact W.iret (v := (-4)) hx hb hr (fun t ht hW => ⟨⟨(-4), (), rfl, rfl, trivial⟩, hS.F ht⟩) hS.2.2 dX0_agree_16

set_option maxHeartbeats 4000000 in
set_option maxRecDepth 100000 in
theorem cs_agree_2 (l : Launch) (D : va_G) {ad : Nat → Nat} {cI cJ : ClassId} {n : Nat} {ky : Nat → Nat} {vl : Nat → Int32} {sp : Nat → Int32} {dp : Nat → Int64} {cm : Nat → Int64} {sh : Nat → Int64} {lk : Nat → Int32} {bs : Nat → Option Nat} {pl : Nat → Nat} {ss : Nat → Int64} {st : Nat → Int32} {ch : Nat → Nat} {cd : Nat} (z : Nat) {p1 : Int32} (hz : z < 3) (h : cs_bad p1 = true) : cs_MR l yX0_agree (ws_ yX0_agree cX0_agree 5 (some .int)) ({ frames := 3, cells := 0, slots := 0, locals := 71 }) D vwCl (cs_wX ad cI cJ n ky vl sp dp cm sh lk bs pl ss st ch cd) (cs_tX cI cJ) [.ref (ad 0), .int (nI z), .int p1] (-4) := by
  intro sz
  refine Met.ofW (cc := cX0_agree) (maxL := 5) (ret := (some .int)) (by decide) rfl ?_
  intro p e s m args below meth c s₁ B hml hv9
  obtain ⟨rfl, hsz, hP, hK⟩ := hv9
  have hx := B.exec
  have hb := B.bytes
  have hr := B.returns
  have hts := atoms_spec (ws := (ws_ yX0_agree cX0_agree 5 (some .int))) B.pre
  have hts : ∀ w ∈ lw_all, w.before _ s = true := fun w h => hts w (List.mem_cons_of_mem _ h)
  have hown : s.vm.findClass RX0 = some m.cls := findClass_of_methodNamed B.named
  have hlocks := B.notSynchronized
  subst hsz
  generalize hAe : va_A [] s.heap.size = A
  have hA : ∀ q : Nat, s.heap.size ≤ q → A q := fun q h => by rw [← hAe]; exact Or.inr h
  have hS : va_S A s.heap s.heap [] := va_S.rf
  have hP : va_P D vwCl (cs_wX ad cI cJ n ky vl sp dp cm sh lk bs pl ss st ch cd) s.heap := hP
  have hl := lv_entry ([.ref (ad 0), .int (nI z), .int p1]) (n := 5) (Nat.le_of_ble_eq_true rfl)
  rw [lg_entry_eq]
  generalize (lg_sl ([.ref (ad 0), .int (nI z), .int p1]) ++ List.replicate (5 - (lg_sl ([.ref (ad 0), .int (nI z), .int p1])).length) Slot.unset).toArray = ls at hl ⊢
  have hl : lv_has ls 5 [(0, .ref (ad 0)), (1, .int (nI z)), (2, .int p1)] := hl
  refine lv_iload_n hx hb dX0_agree_0 rfl (lv_at hl 1 rfl) ?_
  refine cs_callRS (As := [.int (nI z)]) (rest := []) ⟨hx, hb, hml, hown, hts⟩ (cs_badCentre_k l D hz) (va_cwS 1 hts (lw_S q109 q110 q12 q111) rfl rfl rfl (by decide +kernel) ⟨Nat.le_of_ble_eq_true rfl, Nat.le_of_ble_eq_true rfl⟩) cs_P0 hK hP hS hA rfl hl.1 rfl (Nat.le_of_ble_eq_true rfl) dX0_agree_1 ⟨Nat.zero_le _, Nat.zero_le _⟩ (fun H locs hP hS => ?_)
  refine cs_zne (tgt := 14) hx hb dX0_agree_4 (by decide) (fun h9 => absurd h9 (by decide)) (fun h9 => ?_)
  refine lv_iload_n hx hb dX0_agree_7 rfl (lv_at hl 2 rfl) ?_
  refine cs_callRS (As := [.int p1]) (rest := []) ⟨hx, hb, hml, hown, hts⟩ (cs_badCentre_t l D h) (va_cwS 1 hts (lw_S q109 q110 q12 q111) rfl rfl rfl (by decide +kernel) ⟨Nat.le_of_ble_eq_true rfl, Nat.le_of_ble_eq_true rfl⟩) cs_P0 hK hP hS hA rfl hl.1 rfl (Nat.le_of_ble_eq_true rfl) dX0_agree_8 ⟨Nat.zero_le _, Nat.zero_le _⟩ (fun H locs hP hS => ?_)
  refine cs_zeq (tgt := 17) hx hb dX0_agree_11 (by decide) (fun h9 => absurd h9 (by decide)) (fun h9 => ?_)
  refine lv_bipush (v := -4) hx hb dX0_agree_14 (by decide) ?_
  exact W.iret (v := (-4)) hx hb hr (fun t ht hW => ⟨⟨(-4), (), rfl, rfl, trivial⟩, hS.F ht⟩) hS.2.2 dX0_agree_16

set_option maxHeartbeats 4000000 in
set_option maxRecDepth 100000 in
theorem cs_agree_loop {p : Program} {l : Launch} {e : Env} {R : Room} {s : State} {m : MethodId} {args : Array Value} {below : List Frame} {meth : Method} {c : Code} {Q : State → Prop} {D : va_G} {A : Nat → Prop} {H0 : Heap} (hx : p.tables.exec = Jvm.exec) (hb : c.code = cX0_agree) (hml : c.maxLocals = 5) (hown : s.vm.findClass RX0 = some m.cls) (hts : ∀ w ∈ lw_all, w.before args s = true) (hA : ∀ q : Nat, H0.size ≤ q → A q) (hR : 0 ≤ R.frames ∧ 0 ≤ R.locals) {ad : Nat → Nat} {cI cJ : ClassId} (hK : va_K D vwCl (cs_tX cI cJ) s) {H : Heap} {locs : List Loc} {n : Nat} {ky : Nat → Nat} {vl : Nat → Int32} {sp : Nat → Int32} {dp : Nat → Int64} {cm : Nat → Int64} {sh : Nat → Int64} {lk : Nat → Int32} {bs : Nat → Option Nat} {pl : Nat → Nat} {ss : Nat → Int64} {st : Nat → Int32} {ch : Nat → Nat} {cd : Nat} (z y : Nat) (hz : z < 3) (hy : y < 3) (hbs : ∀ q j, q < 18 → bs q = some j → j < 2147483648) (hP : va_P D vwCl (cs_wX ad cI cJ n ky vl sp dp cm sh lk bs pl ss st ch cd) H) (hend : ∀ ls : Array Slot, lv_has ls 5 [(0, .ref (ad 0)), (1, .int (nI z)), (2, .int (nI y)), (3, .int (nI (cs_n (fun k => decide (bs (z * 6 + k) = bs (y * 6 + k))) 6))), (4, .int (nI 6))] → W p l e R s m args below meth c H locs 0 0 Q (F0 m 65 ls [])) :
    ∀ (j i : Nat), i + j = 6 → ∀ ls : Array Slot, lv_has ls 5 [(0, .ref (ad 0)), (1, .int (nI z)), (2, .int (nI y)), (3, .int (nI (cs_n (fun k => decide (bs (z * 6 + k) = bs (y * 6 + k))) i))), (4, .int (nI i))] → W p l e R s m args below meth c H locs 0 0 Q (F0 m 22 ls []) := by
  intro j
  induction j with
  | zero =>
    intro i hi ls hl
    refine lv_iload hx hb dX0_agree_22 (lv_at hl 4 rfl) ?_
    refine lv_bipush (v := nI 6) hx hb dX0_agree_24 (by decide) ?_
    refine cs_jge (tgt := 65) hx hb dX0_agree_26 (by decide) (by omega) (by omega) (fun h => ?_) (fun h => absurd h (by omega))
    have hi : i = 6 := by omega
    subst hi
    exact hend ls hl
  | succ j ih =>
    intro i hi ls hl
    refine lv_iload hx hb dX0_agree_22 (lv_at hl 4 rfl) ?_
    refine lv_bipush (v := nI 6) hx hb dX0_agree_24 (by decide) ?_
    refine cs_jge (tgt := 65) hx hb dX0_agree_26 (by decide) (by omega) (by omega) (fun h => absurd h (by omega)) (fun h => ?_)
    refine lv_aload_n hx hb dX0_agree_29 rfl (lv_at hl 0 rfl) ?_
    refine va_get (D := D) (ci := 0) (v := .ref (ad 8)) (C := RX0) (T := TX0) (N := 14) hx hb hts in_X0 hown hK hP 0 rfl rfl 8 (by decide) (hts _ q30) (fun _ h9 => h9) rfl dX0_agree_30 ?_
    refine lv_iload_n hx hb dX0_agree_33 rfl (lv_at hl 1 rfl) ?_
    refine lv_bipush (v := nI 6) hx hb dX0_agree_34 (by decide) ?_
    refine cs_imul hx hb dX0_agree_36 ?_
    refine lv_iload hx hb dX0_agree_37 (lv_at hl 4 rfl) ?_
    refine cs_iadd hx hb dX0_agree_39 ?_
    refine cs_iald hx hb hK hP 8 0 rfl rfl (k := (z * 6) + i) (by omega) (by decide) dX0_agree_40 ?_
    refine lv_aload_n hx hb dX0_agree_41 rfl (lv_at hl 0 rfl) ?_
    refine va_get (D := D) (ci := 0) (v := .ref (ad 8)) (C := RX0) (T := TX0) (N := 14) hx hb hts in_X0 hown hK hP 0 rfl rfl 8 (by decide) (hts _ q30) (fun _ h9 => h9) rfl dX0_agree_42 ?_
    refine lv_iload_n hx hb dX0_agree_45 rfl (lv_at hl 2 rfl) ?_
    refine lv_bipush (v := nI 6) hx hb dX0_agree_46 (by decide) ?_
    refine cs_imul hx hb dX0_agree_48 ?_
    refine lv_iload hx hb dX0_agree_49 (lv_at hl 4 rfl) ?_
    refine cs_iadd hx hb dX0_agree_51 ?_
    refine cs_iald hx hb hK hP 8 0 rfl rfl (k := (y * 6) + i) (by omega) (by decide) dX0_agree_52 ?_
    refine lv_icmp_ne (tgt := 59) hx hb dX0_agree_53 (by decide) (fun h2 => ?_) (fun h2 => ?_)
    · have h7 : (fun k => decide (bs (z * 6 + k) = bs (y * 6 + k))) i = false := decide_eq_false (fun q => h2 (by rw [q]))
      refine lv_iinc (v := nI (i + 1)) (lv' := [(4, .int (nI (i + 1))), (0, .ref (ad 0)), (1, .int (nI z)), (2, .int (nI y)), (3, .int (nI (cs_n (fun k => decide (bs (z * 6 + k) = bs (y * 6 + k))) i)))]) hx hb dX0_agree_59 hl (k := 4) rfl (cs_inc _) (by decide) rfl (fun ls hl => ?_)
      refine lv_goto (tgt := 22) hx hb dX0_agree_62 (by decide) ?_
      exact ih (i + 1) (by omega) ls (by rw [cs_n_f h7]; exact lv_sub hl [1, 2, 3, 4, 0] rfl)
    · have h7 : (fun k => decide (bs (z * 6 + k) = bs (y * 6 + k))) i = true := decide_eq_true ((cs_o_inj (fun j => hbs _ j (by omega)) (fun j => hbs _ j (by omega))).mp h2)
      refine lv_iinc (v := nI (cs_n (fun k => decide (bs (z * 6 + k) = bs (y * 6 + k))) i + 1)) (lv' := [(3, .int (nI (cs_n (fun k => decide (bs (z * 6 + k) = bs (y * 6 + k))) i + 1))), (0, .ref (ad 0)), (1, .int (nI z)), (2, .int (nI y)), (4, .int (nI i))]) hx hb dX0_agree_56 hl (k := 3) rfl (cs_inc _) (by decide) rfl (fun ls hl => ?_)
      refine lv_iinc (v := nI (i + 1)) (lv' := [(4, .int (nI (i + 1))), (3, .int (nI (cs_n (fun k => decide (bs (z * 6 + k) = bs (y * 6 + k))) i + 1))), (0, .ref (ad 0)), (1, .int (nI z)), (2, .int (nI y))]) hx hb dX0_agree_59 hl (k := 4) rfl (cs_inc _) (by decide) rfl (fun ls hl => ?_)
      refine lv_goto (tgt := 22) hx hb dX0_agree_62 (by decide) ?_
      exact ih (i + 1) (by omega) ls (by rw [cs_n_t h7]; exact lv_sub hl [2, 3, 4, 1, 0] rfl)

set_option maxHeartbeats 4000000 in
set_option maxRecDepth 100000 in
theorem cs_agree_3 (l : Launch) (D : va_G) {ad : Nat → Nat} {cI cJ : ClassId} {n : Nat} {ky : Nat → Nat} {vl : Nat → Int32} {sp : Nat → Int32} {dp : Nat → Int64} {cm : Nat → Int64} {sh : Nat → Int64} {lk : Nat → Int32} {bs : Nat → Option Nat} {pl : Nat → Nat} {ss : Nat → Int64} {st : Nat → Int32} {ch : Nat → Nat} {cd : Nat} (z y : Nat) (hz : z < 3) (hy : y < 3) (hbs : ∀ q j, q < 18 → bs q = some j → j < 2147483648) : cs_MR l yX0_agree (ws_ yX0_agree cX0_agree 5 (some .int)) ({ frames := 3, cells := 0, slots := 0, locals := 71 }) D vwCl (cs_wX ad cI cJ n ky vl sp dp cm sh lk bs pl ss st ch cd) (cs_tX cI cJ) [.ref (ad 0), .int (nI z), .int (nI y)] (nI (cs_n (fun k => decide (bs (z * 6 + k) = bs (y * 6 + k))) 6)) := by
  intro sz
  refine Met.ofW (cc := cX0_agree) (maxL := 5) (ret := (some .int)) (by decide) rfl ?_
  intro p e s m args below meth c s₁ B hml hv9
  obtain ⟨rfl, hsz, hP, hK⟩ := hv9
  have hx := B.exec
  have hb := B.bytes
  have hr := B.returns
  have hts := atoms_spec (ws := (ws_ yX0_agree cX0_agree 5 (some .int))) B.pre
  have hts : ∀ w ∈ lw_all, w.before _ s = true := fun w h => hts w (List.mem_cons_of_mem _ h)
  have hown : s.vm.findClass RX0 = some m.cls := findClass_of_methodNamed B.named
  have hlocks := B.notSynchronized
  subst hsz
  generalize hAe : va_A [] s.heap.size = A
  have hA : ∀ q : Nat, s.heap.size ≤ q → A q := fun q h => by rw [← hAe]; exact Or.inr h
  have hS : va_S A s.heap s.heap [] := va_S.rf
  have hP : va_P D vwCl (cs_wX ad cI cJ n ky vl sp dp cm sh lk bs pl ss st ch cd) s.heap := hP
  have hl := lv_entry ([.ref (ad 0), .int (nI z), .int (nI y)]) (n := 5) (Nat.le_of_ble_eq_true rfl)
  rw [lg_entry_eq]
  generalize (lg_sl ([.ref (ad 0), .int (nI z), .int (nI y)]) ++ List.replicate (5 - (lg_sl ([.ref (ad 0), .int (nI z), .int (nI y)])).length) Slot.unset).toArray = ls at hl ⊢
  have hl : lv_has ls 5 [(0, .ref (ad 0)), (1, .int (nI z)), (2, .int (nI y))] := hl
  refine lv_iload_n hx hb dX0_agree_0 rfl (lv_at hl 1 rfl) ?_
  refine cs_callRS (As := [.int (nI z)]) (rest := []) ⟨hx, hb, hml, hown, hts⟩ (cs_badCentre_k l D hz) (va_cwS 1 hts (lw_S q109 q110 q12 q111) rfl rfl rfl (by decide +kernel) ⟨Nat.le_of_ble_eq_true rfl, Nat.le_of_ble_eq_true rfl⟩) cs_P0 hK hP hS hA rfl hl.1 rfl (Nat.le_of_ble_eq_true rfl) dX0_agree_1 ⟨Nat.zero_le _, Nat.zero_le _⟩ (fun H locs hP hS => ?_)
  refine cs_zne (tgt := 14) hx hb dX0_agree_4 (by decide) (fun h9 => absurd h9 (by decide)) (fun h9 => ?_)
  refine lv_iload_n hx hb dX0_agree_7 rfl (lv_at hl 2 rfl) ?_
  refine cs_callRS (As := [.int (nI y)]) (rest := []) ⟨hx, hb, hml, hown, hts⟩ (cs_badCentre_k l D hy) (va_cwS 1 hts (lw_S q109 q110 q12 q111) rfl rfl rfl (by decide +kernel) ⟨Nat.le_of_ble_eq_true rfl, Nat.le_of_ble_eq_true rfl⟩) cs_P0 hK hP hS hA rfl hl.1 rfl (Nat.le_of_ble_eq_true rfl) dX0_agree_8 ⟨Nat.zero_le _, Nat.zero_le _⟩ (fun H locs hP hS => ?_)
  refine cs_zeq (tgt := 17) hx hb dX0_agree_11 (by decide) (fun h9 => ?_) (fun h9 => absurd h9 (by decide))
  refine lv_iconst (v := nI 0) hx hb dX0_agree_17 (by decide) ?_
  refine lv_istore_n (lv' := [(3, .int (nI 0)), (0, .ref (ad 0)), (1, .int (nI z)), (2, .int (nI y))]) hx hb dX0_agree_18 rfl hl (by decide) rfl (fun ls hl => ?_)
  refine lv_iconst (v := nI 0) hx hb dX0_agree_19 (by decide) ?_
  refine lv_istore (lv' := [(4, .int (nI 0)), (3, .int (nI 0)), (0, .ref (ad 0)), (1, .int (nI z)), (2, .int (nI y))]) hx hb dX0_agree_20 hl (by decide) rfl (fun ls hl => ?_)
  refine cs_agree_loop hx hb hml hown hts hA ⟨Nat.zero_le _, Nat.zero_le _⟩ hK z y hz hy hbs hP (fun ls hl => ?_) 6 0 rfl ls (lv_sub hl [2, 3, 4, 1, 0] rfl)
  refine lv_iload_n hx hb dX0_agree_65 rfl (lv_at hl 3 rfl) ?_
  exact W.iret (v := (nI (cs_n (fun k => decide (bs (z * 6 + k) = bs (y * 6 + k))) 6))) hx hb hr (fun t ht hW => ⟨⟨(nI (cs_n (fun k => decide (bs (z * 6 + k) = bs (y * 6 + k))) 6)), (), rfl, rfl, trivial⟩, hS.F ht⟩) hS.2.2 dX0_agree_66

set_option maxHeartbeats 4000000 in
set_option maxRecDepth 100000 in
theorem cs_read_1 (l : Launch) (D : va_G) {ad : Nat → Nat} {cI cJ : ClassId} {n : Nat} {ky : Nat → Nat} {vl : Nat → Int32} {sp : Nat → Int32} {dp : Nat → Int64} {cm : Nat → Int64} {sh : Nat → Int64} {lk : Nat → Int32} {bs : Nat → Option Nat} {pl : Nat → Nat} {ss : Nat → Int64} {st : Nat → Int32} {ch : Nat → Nat} {cd : Nat} {p0 p1 : Int32} (h : cs_bad p0 = true) : cs_MR l yX0_read (ws_ yX0_read cX0_read 4 (some .int)) ({ frames := 3, cells := 0, slots := 0, locals := 71 }) D vwCl (cs_wX ad cI cJ n ky vl sp dp cm sh lk bs pl ss st ch cd) (cs_tX cI cJ) [.ref (ad 0), .int p0, .int p1] (-1) := by
  intro sz
  refine Met.ofW (cc := cX0_read) (maxL := 4) (ret := (some .int)) (by decide) rfl ?_
  intro p e s m args below meth c s₁ B hml hv9
  obtain ⟨rfl, hsz, hP, hK⟩ := hv9
  have hx := B.exec
  have hb := B.bytes
  have hr := B.returns
  have hts := atoms_spec (ws := (ws_ yX0_read cX0_read 4 (some .int))) B.pre
  have hts : ∀ w ∈ lw_all, w.before _ s = true := fun w h => hts w (List.mem_cons_of_mem _ h)
  have hown : s.vm.findClass RX0 = some m.cls := findClass_of_methodNamed B.named
  have hlocks := B.notSynchronized
  subst hsz
  generalize hAe : va_A [] s.heap.size = A
  have hA : ∀ q : Nat, s.heap.size ≤ q → A q := fun q h => by rw [← hAe]; exact Or.inr h
  have hS : va_S A s.heap s.heap [] := va_S.rf
  have hP : va_P D vwCl (cs_wX ad cI cJ n ky vl sp dp cm sh lk bs pl ss st ch cd) s.heap := hP
  have hl := lv_entry ([.ref (ad 0), .int p0, .int p1]) (n := 4) (Nat.le_of_ble_eq_true rfl)
  rw [lg_entry_eq]
  generalize (lg_sl ([.ref (ad 0), .int p0, .int p1]) ++ List.replicate (4 - (lg_sl ([.ref (ad 0), .int p0, .int p1])).length) Slot.unset).toArray = ls at hl ⊢
  have hl : lv_has ls 4 [(0, .ref (ad 0)), (1, .int p0), (2, .int p1)] := hl
  refine lv_iload_n hx hb dX0_read_0 rfl (lv_at hl 1 rfl) ?_
  refine cs_callRS (As := [.int p0]) (rest := []) ⟨hx, hb, hml, hown, hts⟩ (cs_badClient_t l D h) (va_cwS 1 hts (lw_S q71 q72 q12 q73) rfl rfl rfl (by decide +kernel) ⟨Nat.le_of_ble_eq_true rfl, Nat.le_of_ble_eq_true rfl⟩) cs_P0 hK hP hS hA rfl hl.1 rfl (Nat.le_of_ble_eq_true rfl) dX0_read_1 ⟨Nat.zero_le _, Nat.zero_le _⟩ (fun H locs hP hS => ?_)
  refine cs_zeq (tgt := 9) hx hb dX0_read_4 (by decide) (fun h9 => absurd h9 (by decide)) (fun h9 => ?_)
  refine lv_iconst (v := -1) hx hb dX0_read_7 (by decide) ?_
  exact W.iret (v := (-1)) hx hb hr (fun t ht hW => ⟨⟨(-1), (), rfl, rfl, trivial⟩, hS.F ht⟩) hS.2.2 dX0_read_8

set_option maxHeartbeats 4000000 in
set_option maxRecDepth 100000 in
theorem cs_read_2 (l : Launch) (D : va_G) {ad : Nat → Nat} {cI cJ : ClassId} {n : Nat} {ky : Nat → Nat} {vl : Nat → Int32} {sp : Nat → Int32} {dp : Nat → Int64} {cm : Nat → Int64} {sh : Nat → Int64} {lk : Nat → Int32} {bs : Nat → Option Nat} {pl : Nat → Nat} {ss : Nat → Int64} {st : Nat → Int32} {ch : Nat → Nat} {cd : Nat} (u : Nat) {p1 : Int32} (hu : u < 3) (h : p1 < 0 ∨ ¬ p1 < 6) : cs_MR l yX0_read (ws_ yX0_read cX0_read 4 (some .int)) ({ frames := 3, cells := 0, slots := 0, locals := 71 }) D vwCl (cs_wX ad cI cJ n ky vl sp dp cm sh lk bs pl ss st ch cd) (cs_tX cI cJ) [.ref (ad 0), .int (nI u), .int p1] (-2) := by
  intro sz
  refine Met.ofW (cc := cX0_read) (maxL := 4) (ret := (some .int)) (by decide) rfl ?_
  intro p e s m args below meth c s₁ B hml hv9
  obtain ⟨rfl, hsz, hP, hK⟩ := hv9
  have hx := B.exec
  have hb := B.bytes
  have hr := B.returns
  have hts := atoms_spec (ws := (ws_ yX0_read cX0_read 4 (some .int))) B.pre
  have hts : ∀ w ∈ lw_all, w.before _ s = true := fun w h => hts w (List.mem_cons_of_mem _ h)
  have hown : s.vm.findClass RX0 = some m.cls := findClass_of_methodNamed B.named
  have hlocks := B.notSynchronized
  subst hsz
  generalize hAe : va_A [] s.heap.size = A
  have hA : ∀ q : Nat, s.heap.size ≤ q → A q := fun q h => by rw [← hAe]; exact Or.inr h
  have hS : va_S A s.heap s.heap [] := va_S.rf
  have hP : va_P D vwCl (cs_wX ad cI cJ n ky vl sp dp cm sh lk bs pl ss st ch cd) s.heap := hP
  have hl := lv_entry ([.ref (ad 0), .int (nI u), .int p1]) (n := 4) (Nat.le_of_ble_eq_true rfl)
  rw [lg_entry_eq]
  generalize (lg_sl ([.ref (ad 0), .int (nI u), .int p1]) ++ List.replicate (4 - (lg_sl ([.ref (ad 0), .int (nI u), .int p1])).length) Slot.unset).toArray = ls at hl ⊢
  have hl : lv_has ls 4 [(0, .ref (ad 0)), (1, .int (nI u)), (2, .int p1)] := hl
  refine lv_iload_n hx hb dX0_read_0 rfl (lv_at hl 1 rfl) ?_
  refine cs_callRS (As := [.int (nI u)]) (rest := []) ⟨hx, hb, hml, hown, hts⟩ (cs_badClient_k l D hu) (va_cwS 1 hts (lw_S q71 q72 q12 q73) rfl rfl rfl (by decide +kernel) ⟨Nat.le_of_ble_eq_true rfl, Nat.le_of_ble_eq_true rfl⟩) cs_P0 hK hP hS hA rfl hl.1 rfl (Nat.le_of_ble_eq_true rfl) dX0_read_1 ⟨Nat.zero_le _, Nat.zero_le _⟩ (fun H locs hP hS => ?_)
  refine cs_zeq (tgt := 9) hx hb dX0_read_4 (by decide) (fun h9 => ?_) (fun h9 => absurd h9 (by decide))
  refine lv_iload_n hx hb dX0_read_9 rfl (lv_at hl 2 rfl) ?_
  refine lv_if_lt (tgt := 19) hx hb dX0_read_10 (by decide) (fun h9 => ?_) (fun h9 => ?_)
  · refine lv_bipush (v := -2) hx hb dX0_read_19 (by decide) ?_
    exact W.iret (v := (-2)) hx hb hr (fun t ht hW => ⟨⟨(-2), (), rfl, rfl, trivial⟩, hS.F ht⟩) hS.2.2 dX0_read_21
  · refine lv_iload_n hx hb dX0_read_13 rfl (lv_at hl 2 rfl) ?_
    refine lv_bipush (v := 6) hx hb dX0_read_14 (by decide) ?_
    refine lv_icmp_lt (tgt := 22) hx hb dX0_read_16 (by decide) (fun h8 => absurd h (fun q => q.elim h9 (fun z => z h8))) (fun h8 => ?_)
    refine lv_bipush (v := -2) hx hb dX0_read_19 (by decide) ?_
    exact W.iret (v := (-2)) hx hb hr (fun t ht hW => ⟨⟨(-2), (), rfl, rfl, trivial⟩, hS.F ht⟩) hS.2.2 dX0_read_21

set_option maxHeartbeats 4000000 in
set_option maxRecDepth 100000 in
theorem cs_read_3 (l : Launch) (D : va_G) {ad : Nat → Nat} {cI cJ : ClassId} {n : Nat} {ky : Nat → Nat} {vl : Nat → Int32} {sp : Nat → Int32} {dp : Nat → Int64} {cm : Nat → Int64} {sh : Nat → Int64} {lk : Nat → Int32} {bs : Nat → Option Nat} {pl : Nat → Nat} {ss : Nat → Int64} {st : Nat → Int32} {ch : Nat → Nat} {cd : Nat} (u k : Nat) (hu : u < 3) (hk : k < 6) (hpl : pl u < 3) (ho : bs (pl u * 6 + k) = none) : cs_MR l yX0_read (ws_ yX0_read cX0_read 4 (some .int)) ({ frames := 3, cells := 0, slots := 0, locals := 71 }) D vwCl (cs_wX ad cI cJ n ky vl sp dp cm sh lk bs pl ss st ch cd) (cs_tX cI cJ) [.ref (ad 0), .int (nI u), .int (nI k)] (-5) := by
  intro sz
  refine Met.ofW (cc := cX0_read) (maxL := 4) (ret := (some .int)) (by decide) rfl ?_
  intro p e s m args below meth c s₁ B hml hv9
  obtain ⟨rfl, hsz, hP, hK⟩ := hv9
  have hx := B.exec
  have hb := B.bytes
  have hr := B.returns
  have hts := atoms_spec (ws := (ws_ yX0_read cX0_read 4 (some .int))) B.pre
  have hts : ∀ w ∈ lw_all, w.before _ s = true := fun w h => hts w (List.mem_cons_of_mem _ h)
  have hown : s.vm.findClass RX0 = some m.cls := findClass_of_methodNamed B.named
  have hlocks := B.notSynchronized
  subst hsz
  generalize hAe : va_A [] s.heap.size = A
  have hA : ∀ q : Nat, s.heap.size ≤ q → A q := fun q h => by rw [← hAe]; exact Or.inr h
  have hS : va_S A s.heap s.heap [] := va_S.rf
  have hP : va_P D vwCl (cs_wX ad cI cJ n ky vl sp dp cm sh lk bs pl ss st ch cd) s.heap := hP
  have hl := lv_entry ([.ref (ad 0), .int (nI u), .int (nI k)]) (n := 4) (Nat.le_of_ble_eq_true rfl)
  rw [lg_entry_eq]
  generalize (lg_sl ([.ref (ad 0), .int (nI u), .int (nI k)]) ++ List.replicate (4 - (lg_sl ([.ref (ad 0), .int (nI u), .int (nI k)])).length) Slot.unset).toArray = ls at hl ⊢
  have hl : lv_has ls 4 [(0, .ref (ad 0)), (1, .int (nI u)), (2, .int (nI k))] := hl
  refine lv_iload_n hx hb dX0_read_0 rfl (lv_at hl 1 rfl) ?_
  refine cs_callRS (As := [.int (nI u)]) (rest := []) ⟨hx, hb, hml, hown, hts⟩ (cs_badClient_k l D hu) (va_cwS 1 hts (lw_S q71 q72 q12 q73) rfl rfl rfl (by decide +kernel) ⟨Nat.le_of_ble_eq_true rfl, Nat.le_of_ble_eq_true rfl⟩) cs_P0 hK hP hS hA rfl hl.1 rfl (Nat.le_of_ble_eq_true rfl) dX0_read_1 ⟨Nat.zero_le _, Nat.zero_le _⟩ (fun H locs hP hS => ?_)
  refine cs_zeq (tgt := 9) hx hb dX0_read_4 (by decide) (fun h9 => ?_) (fun h9 => absurd h9 (by decide))
  refine lv_iload_n hx hb dX0_read_9 rfl (lv_at hl 2 rfl) ?_
  refine lv_if_lt (tgt := 19) hx hb dX0_read_10 (by decide) (fun h9 => absurd h9 (nI_pos (by omega))) (fun h9 => ?_)
  refine lv_iload_n hx hb dX0_read_13 rfl (lv_at hl 2 rfl) ?_
  refine lv_bipush (v := nI 6) hx hb dX0_read_14 (by decide) ?_
  refine cs_jlt (tgt := 22) hx hb dX0_read_16 (by decide) (by omega) (by omega) (fun h8 => ?_) (fun h8 => absurd h8 (by omega))
  refine lv_aload_n hx hb dX0_read_22 rfl (lv_at hl 0 rfl) ?_
  refine va_get (D := D) (ci := 0) (v := .ref (ad 8)) (C := RX0) (T := TX0) (N := 14) hx hb hts in_X0 hown hK hP 0 rfl rfl 8 (by decide) (hts _ q30) (fun _ h9 => h9) rfl dX0_read_23 ?_
  refine lv_aload_n hx hb dX0_read_26 rfl (lv_at hl 0 rfl) ?_
  refine va_get (D := D) (ci := 0) (v := .ref (ad 9)) (C := RX0) (T := TX0) (N := 14) hx hb hts in_X0 hown hK hP 0 rfl rfl 9 (by decide) (hts _ q31) (fun _ h9 => h9) rfl dX0_read_27 ?_
  refine lv_iload_n hx hb dX0_read_30 rfl (lv_at hl 1 rfl) ?_
  refine cs_iald hx hb hK hP 9 0 rfl rfl (k := u) (by omega) (by decide) dX0_read_31 ?_
  refine lv_bipush (v := nI 6) hx hb dX0_read_32 (by decide) ?_
  refine cs_imul hx hb dX0_read_34 ?_
  refine lv_iload_n hx hb dX0_read_35 rfl (lv_at hl 2 rfl) ?_
  refine cs_iadd hx hb dX0_read_36 ?_
  refine cs_iald hx hb hK hP 8 0 rfl rfl (k := ((pl u) * 6) + k) (by omega) (by decide) dX0_read_37 ?_
  refine cs_ti (y := (-5)) (by rw [ho]; rfl) ?_
  refine lv_istore_n (lv' := [(3, .int (-5)), (0, .ref (ad 0)), (1, .int (nI u)), (2, .int (nI k))]) hx hb dX0_read_38 rfl hl (by decide) rfl (fun ls hl => ?_)
  refine lv_iload_n hx hb dX0_read_39 rfl (lv_at hl 0 rfl) ?_
  refine lv_if_lt (tgt := 49) hx hb dX0_read_40 (by decide) (fun h7 => ?_) (fun h7 => absurd (by decide) h7)
  refine lv_iload_n hx hb dX0_read_49 rfl (lv_at hl 0 rfl) ?_
  exact W.iret (v := (-5)) hx hb hr (fun t ht hW => ⟨⟨(-5), (), rfl, rfl, trivial⟩, hS.F ht⟩) hS.2.2 dX0_read_50

set_option maxHeartbeats 4000000 in
set_option maxRecDepth 100000 in
theorem cs_read_4 (l : Launch) (D : va_G) {ad : Nat → Nat} {cI cJ : ClassId} {n : Nat} {ky : Nat → Nat} {vl : Nat → Int32} {sp : Nat → Int32} {dp : Nat → Int64} {cm : Nat → Int64} {sh : Nat → Int64} {lk : Nat → Int32} {bs : Nat → Option Nat} {pl : Nat → Nat} {ss : Nat → Int64} {st : Nat → Int32} {ch : Nat → Nat} {cd : Nat} (u k v : Nat) (hu : u < 3) (hk : k < 6) (hpl : pl u < 3) (hv : v < 40) (ho : bs (pl u * 6 + k) = some v) : cs_MW l yX0_read (ws_ yX0_read cX0_read 4 (some .int)) ({ frames := 3, cells := 0, slots := 0, locals := 71 }) D vwCl (cs_wX ad cI cJ n ky vl sp dp cm sh lk bs pl ss st ch cd) (cs_tX cI cJ) [.ref (ad 0), .int (nI u), .int (nI k)] (fun r w' => r = nI v ∧ w' = cs_wX ad cI cJ n ky vl sp dp cm sh lk bs pl (va_up ss u (ss u ||| cs_l v)) (cs_su st u (sp v)) ch cd) := by
  intro sz
  refine Met.ofW (cc := cX0_read) (maxL := 4) (ret := (some .int)) (by decide) rfl ?_
  intro p e s m args below meth c s₁ B hml hv9
  obtain ⟨rfl, hsz, hP, hK, hD0⟩ := hv9
  have hx := B.exec
  have hb := B.bytes
  have hr := B.returns
  have hts := atoms_spec (ws := (ws_ yX0_read cX0_read 4 (some .int))) B.pre
  have hts : ∀ w ∈ lw_all, w.before _ s = true := fun w h => hts w (List.mem_cons_of_mem _ h)
  have hown : s.vm.findClass RX0 = some m.cls := findClass_of_methodNamed B.named
  have hlocks := B.notSynchronized
  subst hsz
  have hD := hD0.self (sz := s.heap.size)
  generalize hAe : va_A (cs_wX ad cI cJ n ky vl sp dp cm sh lk bs pl ss st ch cd) s.heap.size = A at hD ⊢
  have hA : ∀ q : Nat, s.heap.size ≤ q → A q := fun q h => by rw [← hAe]; exact Or.inr h
  have hS : va_S A s.heap s.heap [] := va_S.rf
  have hP : va_P D vwCl (cs_wX ad cI cJ n ky vl sp dp cm sh lk bs pl ss st ch cd) s.heap := hP
  have hl := lv_entry ([.ref (ad 0), .int (nI u), .int (nI k)]) (n := 4) (Nat.le_of_ble_eq_true rfl)
  rw [lg_entry_eq]
  generalize (lg_sl ([.ref (ad 0), .int (nI u), .int (nI k)]) ++ List.replicate (4 - (lg_sl ([.ref (ad 0), .int (nI u), .int (nI k)])).length) Slot.unset).toArray = ls at hl ⊢
  have hl : lv_has ls 4 [(0, .ref (ad 0)), (1, .int (nI u)), (2, .int (nI k))] := hl
  refine lv_iload_n hx hb dX0_read_0 rfl (lv_at hl 1 rfl) ?_
  refine cs_callRS (As := [.int (nI u)]) (rest := []) ⟨hx, hb, hml, hown, hts⟩ (cs_badClient_k l D hu) (va_cwS 1 hts (lw_S q71 q72 q12 q73) rfl rfl rfl (by decide +kernel) ⟨Nat.le_of_ble_eq_true rfl, Nat.le_of_ble_eq_true rfl⟩) cs_P0 hK hP hS hA rfl hl.1 rfl (Nat.le_of_ble_eq_true rfl) dX0_read_1 ⟨Nat.zero_le _, Nat.zero_le _⟩ (fun H locs hP hS => ?_)
  refine cs_zeq (tgt := 9) hx hb dX0_read_4 (by decide) (fun h9 => ?_) (fun h9 => absurd h9 (by decide))
  refine lv_iload_n hx hb dX0_read_9 rfl (lv_at hl 2 rfl) ?_
  refine lv_if_lt (tgt := 19) hx hb dX0_read_10 (by decide) (fun h9 => absurd h9 (nI_pos (by omega))) (fun h9 => ?_)
  refine lv_iload_n hx hb dX0_read_13 rfl (lv_at hl 2 rfl) ?_
  refine lv_bipush (v := nI 6) hx hb dX0_read_14 (by decide) ?_
  refine cs_jlt (tgt := 22) hx hb dX0_read_16 (by decide) (by omega) (by omega) (fun h8 => ?_) (fun h8 => absurd h8 (by omega))
  refine lv_aload_n hx hb dX0_read_22 rfl (lv_at hl 0 rfl) ?_
  refine va_get (D := D) (ci := 0) (v := .ref (ad 8)) (C := RX0) (T := TX0) (N := 14) hx hb hts in_X0 hown hK hP 0 rfl rfl 8 (by decide) (hts _ q30) (fun _ h9 => h9) rfl dX0_read_23 ?_
  refine lv_aload_n hx hb dX0_read_26 rfl (lv_at hl 0 rfl) ?_
  refine va_get (D := D) (ci := 0) (v := .ref (ad 9)) (C := RX0) (T := TX0) (N := 14) hx hb hts in_X0 hown hK hP 0 rfl rfl 9 (by decide) (hts _ q31) (fun _ h9 => h9) rfl dX0_read_27 ?_
  refine lv_iload_n hx hb dX0_read_30 rfl (lv_at hl 1 rfl) ?_
  refine cs_iald hx hb hK hP 9 0 rfl rfl (k := u) (by omega) (by decide) dX0_read_31 ?_
  refine lv_bipush (v := nI 6) hx hb dX0_read_32 (by decide) ?_
  refine cs_imul hx hb dX0_read_34 ?_
  refine lv_iload_n hx hb dX0_read_35 rfl (lv_at hl 2 rfl) ?_
  refine cs_iadd hx hb dX0_read_36 ?_
  refine cs_iald hx hb hK hP 8 0 rfl rfl (k := ((pl u) * 6) + k) (by omega) (by decide) dX0_read_37 ?_
  refine cs_ti (y := (nI v)) (by rw [ho]; rfl) ?_
  refine lv_istore_n (lv' := [(3, .int (nI v)), (0, .ref (ad 0)), (1, .int (nI u)), (2, .int (nI k))]) hx hb dX0_read_38 rfl hl (by decide) rfl (fun ls hl => ?_)
  refine lv_iload_n hx hb dX0_read_39 rfl (lv_at hl 0 rfl) ?_
  refine lv_if_lt (tgt := 49) hx hb dX0_read_40 (by decide) (fun h7 => absurd h7 (nI_pos (by omega))) (fun h7 => ?_)
  refine lv_aload_n hx hb dX0_read_43 rfl (lv_at hl 1 rfl) ?_
  refine lv_iload_n hx hb dX0_read_44 rfl (lv_at hl 2 rfl) ?_
  refine lv_iload_n hx hb dX0_read_45 rfl (lv_at hl 0 rfl) ?_
  refine cs_callVV (C := RX0) (As := [.int (nI u), .int (nI v)]) (rest := []) ⟨hx, hb, hml, hown, hts⟩ (cs_see l D u v hu hv) (cwV 2 hts (lw_V q97 q99 qs4 q12 q100) rfl rfl rfl (by decide +kernel) ⟨Nat.le_of_ble_eq_true rfl, Nat.le_of_ble_eq_true rfl⟩) (va_recv hK hP (ci := 0) (q0 := 0) rfl rfl) hK hP hD hS hA rfl hl.1 rfl (Nat.le_of_ble_eq_true rfl) dX0_read_46 ⟨Nat.zero_le _, Nat.zero_le _⟩ (fun w' H locs hq hP hD hS => ?_)
  subst hq
  refine lv_iload_n hx hb dX0_read_49 rfl (lv_at hl 0 rfl) ?_
  exact W.iret (v := (nI v)) hx hb hr (fun t ht hW => ⟨⟨(nI v), cs_wX ad cI cJ n ky vl sp dp cm sh lk bs pl (va_up ss u (ss u ||| cs_l v)) (cs_su st u (sp v)) ch cd, rfl, ⟨rfl, rfl⟩, by rw [ht]; exact hP, hD⟩, hS.F ht⟩) hS.2.2 dX0_read_50

set_option maxHeartbeats 4000000 in
set_option maxRecDepth 100000 in
theorem cs_move_1 (l : Launch) (D : va_G) {ad : Nat → Nat} {cI cJ : ClassId} {n : Nat} {ky : Nat → Nat} {vl : Nat → Int32} {sp : Nat → Int32} {dp : Nat → Int64} {cm : Nat → Int64} {sh : Nat → Int64} {lk : Nat → Int32} {bs : Nat → Option Nat} {pl : Nat → Nat} {ss : Nat → Int64} {st : Nat → Int32} {ch : Nat → Nat} {cd : Nat} {p0 p1 : Int32} (h : cs_bad p0 = true) : cs_MR l yX0_move (ws_ yX0_move cX0_move 3 (some .int)) ({ frames := 3, cells := 0, slots := 0, locals := 71 }) D vwCl (cs_wX ad cI cJ n ky vl sp dp cm sh lk bs pl ss st ch cd) (cs_tX cI cJ) [.ref (ad 0), .int p0, .int p1] (-1) := by
  intro sz
  refine Met.ofW (cc := cX0_move) (maxL := 3) (ret := (some .int)) (by decide) rfl ?_
  intro p e s m args below meth c s₁ B hml hv9
  obtain ⟨rfl, hsz, hP, hK⟩ := hv9
  have hx := B.exec
  have hb := B.bytes
  have hr := B.returns
  have hts := atoms_spec (ws := (ws_ yX0_move cX0_move 3 (some .int))) B.pre
  have hts : ∀ w ∈ lw_all, w.before _ s = true := fun w h => hts w (List.mem_cons_of_mem _ h)
  have hown : s.vm.findClass RX0 = some m.cls := findClass_of_methodNamed B.named
  have hlocks := B.notSynchronized
  subst hsz
  generalize hAe : va_A [] s.heap.size = A
  have hA : ∀ q : Nat, s.heap.size ≤ q → A q := fun q h => by rw [← hAe]; exact Or.inr h
  have hS : va_S A s.heap s.heap [] := va_S.rf
  have hP : va_P D vwCl (cs_wX ad cI cJ n ky vl sp dp cm sh lk bs pl ss st ch cd) s.heap := hP
  have hl := lv_entry ([.ref (ad 0), .int p0, .int p1]) (n := 3) (Nat.le_of_ble_eq_true rfl)
  rw [lg_entry_eq]
  generalize (lg_sl ([.ref (ad 0), .int p0, .int p1]) ++ List.replicate (3 - (lg_sl ([.ref (ad 0), .int p0, .int p1])).length) Slot.unset).toArray = ls at hl ⊢
  have hl : lv_has ls 3 [(0, .ref (ad 0)), (1, .int p0), (2, .int p1)] := hl
  refine lv_iload_n hx hb dX0_move_0 rfl (lv_at hl 1 rfl) ?_
  refine cs_callRS (As := [.int p0]) (rest := []) ⟨hx, hb, hml, hown, hts⟩ (cs_badClient_t l D h) (va_cwS 1 hts (lw_S q71 q72 q12 q73) rfl rfl rfl (by decide +kernel) ⟨Nat.le_of_ble_eq_true rfl, Nat.le_of_ble_eq_true rfl⟩) cs_P0 hK hP hS hA rfl hl.1 rfl (Nat.le_of_ble_eq_true rfl) dX0_move_1 ⟨Nat.zero_le _, Nat.zero_le _⟩ (fun H locs hP hS => ?_)
  refine cs_zeq (tgt := 9) hx hb dX0_move_4 (by decide) (fun h9 => absurd h9 (by decide)) (fun h9 => ?_)
  refine lv_iconst (v := -1) hx hb dX0_move_7 (by decide) ?_
  exact W.iret (v := (-1)) hx hb hr (fun t ht hW => ⟨⟨(-1), (), rfl, rfl, trivial⟩, hS.F ht⟩) hS.2.2 dX0_move_8

set_option maxHeartbeats 4000000 in
set_option maxRecDepth 100000 in
theorem cs_move_2 (l : Launch) (D : va_G) {ad : Nat → Nat} {cI cJ : ClassId} {n : Nat} {ky : Nat → Nat} {vl : Nat → Int32} {sp : Nat → Int32} {dp : Nat → Int64} {cm : Nat → Int64} {sh : Nat → Int64} {lk : Nat → Int32} {bs : Nat → Option Nat} {pl : Nat → Nat} {ss : Nat → Int64} {st : Nat → Int32} {ch : Nat → Nat} {cd : Nat} (u : Nat) {p1 : Int32} (hu : u < 3) (h : cs_bad p1 = true) : cs_MR l yX0_move (ws_ yX0_move cX0_move 3 (some .int)) ({ frames := 3, cells := 0, slots := 0, locals := 71 }) D vwCl (cs_wX ad cI cJ n ky vl sp dp cm sh lk bs pl ss st ch cd) (cs_tX cI cJ) [.ref (ad 0), .int (nI u), .int p1] (-4) := by
  intro sz
  refine Met.ofW (cc := cX0_move) (maxL := 3) (ret := (some .int)) (by decide) rfl ?_
  intro p e s m args below meth c s₁ B hml hv9
  obtain ⟨rfl, hsz, hP, hK⟩ := hv9
  have hx := B.exec
  have hb := B.bytes
  have hr := B.returns
  have hts := atoms_spec (ws := (ws_ yX0_move cX0_move 3 (some .int))) B.pre
  have hts : ∀ w ∈ lw_all, w.before _ s = true := fun w h => hts w (List.mem_cons_of_mem _ h)
  have hown : s.vm.findClass RX0 = some m.cls := findClass_of_methodNamed B.named
  have hlocks := B.notSynchronized
  subst hsz
  generalize hAe : va_A [] s.heap.size = A
  have hA : ∀ q : Nat, s.heap.size ≤ q → A q := fun q h => by rw [← hAe]; exact Or.inr h
  have hS : va_S A s.heap s.heap [] := va_S.rf
  have hP : va_P D vwCl (cs_wX ad cI cJ n ky vl sp dp cm sh lk bs pl ss st ch cd) s.heap := hP
  have hl := lv_entry ([.ref (ad 0), .int (nI u), .int p1]) (n := 3) (Nat.le_of_ble_eq_true rfl)
  rw [lg_entry_eq]
  generalize (lg_sl ([.ref (ad 0), .int (nI u), .int p1]) ++ List.replicate (3 - (lg_sl ([.ref (ad 0), .int (nI u), .int p1])).length) Slot.unset).toArray = ls at hl ⊢
  have hl : lv_has ls 3 [(0, .ref (ad 0)), (1, .int (nI u)), (2, .int p1)] := hl
  refine lv_iload_n hx hb dX0_move_0 rfl (lv_at hl 1 rfl) ?_
  refine cs_callRS (As := [.int (nI u)]) (rest := []) ⟨hx, hb, hml, hown, hts⟩ (cs_badClient_k l D hu) (va_cwS 1 hts (lw_S q71 q72 q12 q73) rfl rfl rfl (by decide +kernel) ⟨Nat.le_of_ble_eq_true rfl, Nat.le_of_ble_eq_true rfl⟩) cs_P0 hK hP hS hA rfl hl.1 rfl (Nat.le_of_ble_eq_true rfl) dX0_move_1 ⟨Nat.zero_le _, Nat.zero_le _⟩ (fun H locs hP hS => ?_)
  refine cs_zeq (tgt := 9) hx hb dX0_move_4 (by decide) (fun h9 => ?_) (fun h9 => absurd h9 (by decide))
  refine lv_iload_n hx hb dX0_move_9 rfl (lv_at hl 2 rfl) ?_
  refine cs_callRS (As := [.int p1]) (rest := []) ⟨hx, hb, hml, hown, hts⟩ (cs_badCentre_t l D h) (va_cwS 1 hts (lw_S q109 q110 q12 q111) rfl rfl rfl (by decide +kernel) ⟨Nat.le_of_ble_eq_true rfl, Nat.le_of_ble_eq_true rfl⟩) cs_P0 hK hP hS hA rfl hl.1 rfl (Nat.le_of_ble_eq_true rfl) dX0_move_10 ⟨Nat.zero_le _, Nat.zero_le _⟩ (fun H locs hP hS => ?_)
  refine cs_zeq (tgt := 19) hx hb dX0_move_13 (by decide) (fun h9 => absurd h9 (by decide)) (fun h9 => ?_)
  refine lv_bipush (v := -4) hx hb dX0_move_16 (by decide) ?_
  exact W.iret (v := (-4)) hx hb hr (fun t ht hW => ⟨⟨(-4), (), rfl, rfl, trivial⟩, hS.F ht⟩) hS.2.2 dX0_move_18

set_option maxHeartbeats 4000000 in
set_option maxRecDepth 100000 in
theorem cs_move_3 (l : Launch) (D : va_G) {ad : Nat → Nat} {cI cJ : ClassId} {n : Nat} {ky : Nat → Nat} {vl : Nat → Int32} {sp : Nat → Int32} {dp : Nat → Int64} {cm : Nat → Int64} {sh : Nat → Int64} {lk : Nat → Int32} {bs : Nat → Option Nat} {pl : Nat → Nat} {ss : Nat → Int64} {st : Nat → Int32} {ch : Nat → Nat} {cd : Nat} (u z : Nat) (hu : u < 3) (hz : z < 3) (hs : ¬ (ss u &&& (sh z ^^^ (-1))) = 0) : cs_MR l yX0_move (ws_ yX0_move cX0_move 3 (some .int)) ({ frames := 3, cells := 0, slots := 0, locals := 71 }) D vwCl (cs_wX ad cI cJ n ky vl sp dp cm sh lk bs pl ss st ch cd) (cs_tX cI cJ) [.ref (ad 0), .int (nI u), .int (nI z)] (-7) := by
  intro sz
  refine Met.ofW (cc := cX0_move) (maxL := 3) (ret := (some .int)) (by decide) rfl ?_
  intro p e s m args below meth c s₁ B hml hv9
  obtain ⟨rfl, hsz, hP, hK⟩ := hv9
  have hx := B.exec
  have hb := B.bytes
  have hr := B.returns
  have hts := atoms_spec (ws := (ws_ yX0_move cX0_move 3 (some .int))) B.pre
  have hts : ∀ w ∈ lw_all, w.before _ s = true := fun w h => hts w (List.mem_cons_of_mem _ h)
  have hown : s.vm.findClass RX0 = some m.cls := findClass_of_methodNamed B.named
  have hlocks := B.notSynchronized
  subst hsz
  generalize hAe : va_A [] s.heap.size = A
  have hA : ∀ q : Nat, s.heap.size ≤ q → A q := fun q h => by rw [← hAe]; exact Or.inr h
  have hS : va_S A s.heap s.heap [] := va_S.rf
  have hP : va_P D vwCl (cs_wX ad cI cJ n ky vl sp dp cm sh lk bs pl ss st ch cd) s.heap := hP
  have hl := lv_entry ([.ref (ad 0), .int (nI u), .int (nI z)]) (n := 3) (Nat.le_of_ble_eq_true rfl)
  rw [lg_entry_eq]
  generalize (lg_sl ([.ref (ad 0), .int (nI u), .int (nI z)]) ++ List.replicate (3 - (lg_sl ([.ref (ad 0), .int (nI u), .int (nI z)])).length) Slot.unset).toArray = ls at hl ⊢
  have hl : lv_has ls 3 [(0, .ref (ad 0)), (1, .int (nI u)), (2, .int (nI z))] := hl
  refine lv_iload_n hx hb dX0_move_0 rfl (lv_at hl 1 rfl) ?_
  refine cs_callRS (As := [.int (nI u)]) (rest := []) ⟨hx, hb, hml, hown, hts⟩ (cs_badClient_k l D hu) (va_cwS 1 hts (lw_S q71 q72 q12 q73) rfl rfl rfl (by decide +kernel) ⟨Nat.le_of_ble_eq_true rfl, Nat.le_of_ble_eq_true rfl⟩) cs_P0 hK hP hS hA rfl hl.1 rfl (Nat.le_of_ble_eq_true rfl) dX0_move_1 ⟨Nat.zero_le _, Nat.zero_le _⟩ (fun H locs hP hS => ?_)
  refine cs_zeq (tgt := 9) hx hb dX0_move_4 (by decide) (fun h9 => ?_) (fun h9 => absurd h9 (by decide))
  refine lv_iload_n hx hb dX0_move_9 rfl (lv_at hl 2 rfl) ?_
  refine cs_callRS (As := [.int (nI z)]) (rest := []) ⟨hx, hb, hml, hown, hts⟩ (cs_badCentre_k l D hz) (va_cwS 1 hts (lw_S q109 q110 q12 q111) rfl rfl rfl (by decide +kernel) ⟨Nat.le_of_ble_eq_true rfl, Nat.le_of_ble_eq_true rfl⟩) cs_P0 hK hP hS hA rfl hl.1 rfl (Nat.le_of_ble_eq_true rfl) dX0_move_10 ⟨Nat.zero_le _, Nat.zero_le _⟩ (fun H locs hP hS => ?_)
  refine cs_zeq (tgt := 19) hx hb dX0_move_13 (by decide) (fun h9 => ?_) (fun h9 => absurd h9 (by decide))
  refine lv_aload_n hx hb dX0_move_19 rfl (lv_at hl 0 rfl) ?_
  refine va_get (D := D) (ci := 0) (v := .ref (ad 10)) (C := RX0) (T := TX0) (N := 14) hx hb hts in_X0 hown hK hP 0 rfl rfl 10 (by decide) (hts _ q32) (fun _ h9 => h9) rfl dX0_move_20 ?_
  refine lv_iload_n hx hb dX0_move_23 rfl (lv_at hl 1 rfl) ?_
  refine cs_lald hx hb hK hP 10 1 rfl rfl (k := u) (by omega) (by decide) dX0_move_24 ?_
  refine lv_aload_n hx hb dX0_move_25 rfl (lv_at hl 0 rfl) ?_
  refine va_get (D := D) (ci := 0) (v := .ref (ad 6)) (C := RX0) (T := TX0) (N := 14) hx hb hts in_X0 hown hK hP 0 rfl rfl 6 (by decide) (hts _ q28) (fun _ h9 => h9) rfl dX0_move_26 ?_
  refine lv_iload_n hx hb dX0_move_29 rfl (lv_at hl 2 rfl) ?_
  refine cs_lald hx hb hK hP 6 1 rfl rfl (k := z) (by omega) (by decide) dX0_move_30 ?_
  refine lv_ldc2 (v := -1) hx hb hown (hts _ q78) dX0_move_31 ?_
  refine lv_lxor hx hb dX0_move_34 ?_
  refine lv_land hx hb dX0_move_35 ?_
  refine lv_lconst (v := 0) hx hb dX0_move_36 (by decide) ?_
  refine W.lcmp hx hb dX0_move_37 ?_
  refine lv_if_eq (tgt := 44) hx hb dX0_move_38 (by decide) (fun h7 => absurd ((lg_cmp_eq _ _).mp h7) hs) (fun h7 => ?_)
  refine lv_bipush (v := -7) hx hb dX0_move_41 (by decide) ?_
  exact W.iret (v := (-7)) hx hb hr (fun t ht hW => ⟨⟨(-7), (), rfl, rfl, trivial⟩, hS.F ht⟩) hS.2.2 dX0_move_43

set_option maxHeartbeats 4000000 in
set_option maxRecDepth 100000 in
theorem cs_move_4 (l : Launch) (D : va_G) {ad : Nat → Nat} {cI cJ : ClassId} {n : Nat} {ky : Nat → Nat} {vl : Nat → Int32} {sp : Nat → Int32} {dp : Nat → Int64} {cm : Nat → Int64} {sh : Nat → Int64} {lk : Nat → Int32} {bs : Nat → Option Nat} {pl : Nat → Nat} {ss : Nat → Int64} {st : Nat → Int32} {ch : Nat → Nat} {cd : Nat} (u z : Nat) (hu : u < 3) (hz : z < 3) (hs : (ss u &&& (sh z ^^^ (-1))) = 0) : cs_MW l yX0_move (ws_ yX0_move cX0_move 3 (some .int)) ({ frames := 3, cells := 0, slots := 0, locals := 71 }) D vwCl (cs_wX ad cI cJ n ky vl sp dp cm sh lk bs pl ss st ch cd) (cs_tX cI cJ) [.ref (ad 0), .int (nI u), .int (nI z)] (fun r w' => r = nI 0 ∧ w' = cs_wX ad cI cJ n ky vl sp dp cm sh lk bs (va_up pl u z) ss st ch cd) := by
  intro sz
  refine Met.ofW (cc := cX0_move) (maxL := 3) (ret := (some .int)) (by decide) rfl ?_
  intro p e s m args below meth c s₁ B hml hv9
  obtain ⟨rfl, hsz, hP, hK, hD0⟩ := hv9
  have hx := B.exec
  have hb := B.bytes
  have hr := B.returns
  have hts := atoms_spec (ws := (ws_ yX0_move cX0_move 3 (some .int))) B.pre
  have hts : ∀ w ∈ lw_all, w.before _ s = true := fun w h => hts w (List.mem_cons_of_mem _ h)
  have hown : s.vm.findClass RX0 = some m.cls := findClass_of_methodNamed B.named
  have hlocks := B.notSynchronized
  subst hsz
  have hD := hD0.self (sz := s.heap.size)
  generalize hAe : va_A (cs_wX ad cI cJ n ky vl sp dp cm sh lk bs pl ss st ch cd) s.heap.size = A at hD ⊢
  have hA : ∀ q : Nat, s.heap.size ≤ q → A q := fun q h => by rw [← hAe]; exact Or.inr h
  have hS : va_S A s.heap s.heap [] := va_S.rf
  have hP : va_P D vwCl (cs_wX ad cI cJ n ky vl sp dp cm sh lk bs pl ss st ch cd) s.heap := hP
  have hl := lv_entry ([.ref (ad 0), .int (nI u), .int (nI z)]) (n := 3) (Nat.le_of_ble_eq_true rfl)
  rw [lg_entry_eq]
  generalize (lg_sl ([.ref (ad 0), .int (nI u), .int (nI z)]) ++ List.replicate (3 - (lg_sl ([.ref (ad 0), .int (nI u), .int (nI z)])).length) Slot.unset).toArray = ls at hl ⊢
  have hl : lv_has ls 3 [(0, .ref (ad 0)), (1, .int (nI u)), (2, .int (nI z))] := hl
  refine lv_iload_n hx hb dX0_move_0 rfl (lv_at hl 1 rfl) ?_
  refine cs_callRS (As := [.int (nI u)]) (rest := []) ⟨hx, hb, hml, hown, hts⟩ (cs_badClient_k l D hu) (va_cwS 1 hts (lw_S q71 q72 q12 q73) rfl rfl rfl (by decide +kernel) ⟨Nat.le_of_ble_eq_true rfl, Nat.le_of_ble_eq_true rfl⟩) cs_P0 hK hP hS hA rfl hl.1 rfl (Nat.le_of_ble_eq_true rfl) dX0_move_1 ⟨Nat.zero_le _, Nat.zero_le _⟩ (fun H locs hP hS => ?_)
  refine cs_zeq (tgt := 9) hx hb dX0_move_4 (by decide) (fun h9 => ?_) (fun h9 => absurd h9 (by decide))
  refine lv_iload_n hx hb dX0_move_9 rfl (lv_at hl 2 rfl) ?_
  refine cs_callRS (As := [.int (nI z)]) (rest := []) ⟨hx, hb, hml, hown, hts⟩ (cs_badCentre_k l D hz) (va_cwS 1 hts (lw_S q109 q110 q12 q111) rfl rfl rfl (by decide +kernel) ⟨Nat.le_of_ble_eq_true rfl, Nat.le_of_ble_eq_true rfl⟩) cs_P0 hK hP hS hA rfl hl.1 rfl (Nat.le_of_ble_eq_true rfl) dX0_move_10 ⟨Nat.zero_le _, Nat.zero_le _⟩ (fun H locs hP hS => ?_)
  refine cs_zeq (tgt := 19) hx hb dX0_move_13 (by decide) (fun h9 => ?_) (fun h9 => absurd h9 (by decide))
  refine lv_aload_n hx hb dX0_move_19 rfl (lv_at hl 0 rfl) ?_
  refine va_get (D := D) (ci := 0) (v := .ref (ad 10)) (C := RX0) (T := TX0) (N := 14) hx hb hts in_X0 hown hK hP 0 rfl rfl 10 (by decide) (hts _ q32) (fun _ h9 => h9) rfl dX0_move_20 ?_
  refine lv_iload_n hx hb dX0_move_23 rfl (lv_at hl 1 rfl) ?_
  refine cs_lald hx hb hK hP 10 1 rfl rfl (k := u) (by omega) (by decide) dX0_move_24 ?_
  refine lv_aload_n hx hb dX0_move_25 rfl (lv_at hl 0 rfl) ?_
  refine va_get (D := D) (ci := 0) (v := .ref (ad 6)) (C := RX0) (T := TX0) (N := 14) hx hb hts in_X0 hown hK hP 0 rfl rfl 6 (by decide) (hts _ q28) (fun _ h9 => h9) rfl dX0_move_26 ?_
  refine lv_iload_n hx hb dX0_move_29 rfl (lv_at hl 2 rfl) ?_
  refine cs_lald hx hb hK hP 6 1 rfl rfl (k := z) (by omega) (by decide) dX0_move_30 ?_
  refine lv_ldc2 (v := -1) hx hb hown (hts _ q78) dX0_move_31 ?_
  refine lv_lxor hx hb dX0_move_34 ?_
  refine lv_land hx hb dX0_move_35 ?_
  refine lv_lconst (v := 0) hx hb dX0_move_36 (by decide) ?_
  refine W.lcmp hx hb dX0_move_37 ?_
  refine lv_if_eq (tgt := 44) hx hb dX0_move_38 (by decide) (fun h7 => ?_) (fun h7 => absurd ((lg_cmp_eq _ _).mpr hs) h7)
  refine lv_aload_n hx hb dX0_move_44 rfl (lv_at hl 0 rfl) ?_
  refine va_get (D := D) (ci := 0) (v := .ref (ad 9)) (C := RX0) (T := TX0) (N := 14) hx hb hts in_X0 hown hK hP 0 rfl rfl 9 (by decide) (hts _ q31) (fun _ h9 => h9) rfl dX0_move_45 ?_
  refine lv_iload_n hx hb dX0_move_48 rfl (lv_at hl 1 rfl) ?_
  refine lv_iload_n hx hb dX0_move_49 rfl (lv_at hl 2 rfl) ?_
  refine cs_iastN (f := pl) (k := u) (x := z) hx hb hK hP hD hS 9 0 rfl rfl (by omega) (by decide) dX0_move_50 (fun H locs hP hD hS => ?_)
  have hP : va_P D vwCl (cs_wX ad cI cJ n ky vl sp dp cm sh lk bs (va_up pl u z) ss st ch cd) H := hP
  have hD : va_D A (cs_wX ad cI cJ n ky vl sp dp cm sh lk bs (va_up pl u z) ss st ch cd) := hD
  refine lv_iconst (v := nI 0) hx hb dX0_move_51 (by decide) ?_
  exact W.iret (v := (nI 0)) hx hb hr (fun t ht hW => ⟨⟨(nI 0), cs_wX ad cI cJ n ky vl sp dp cm sh lk bs (va_up pl u z) ss st ch cd, rfl, ⟨rfl, rfl⟩, by rw [ht]; exact hP, hD⟩, hS.F ht⟩) hS.2.2 dX0_move_52

set_option maxHeartbeats 4000000 in
set_option maxRecDepth 100000 in
theorem cs_deliver_1 (l : Launch) (D : va_G) {ad : Nat → Nat} {cI cJ : ClassId} {n : Nat} {ky : Nat → Nat} {vl : Nat → Int32} {sp : Nat → Int32} {dp : Nat → Int64} {cm : Nat → Int64} {sh : Nat → Int64} {lk : Nat → Int32} {bs : Nat → Option Nat} {pl : Nat → Nat} {ss : Nat → Int64} {st : Nat → Int32} {ch : Nat → Nat} {cd : Nat} {p0 p1 : Int32} (h : cs_nv n p0 = true) : cs_MR l yX0_deliver (ws_ yX0_deliver cX0_deliver 3 (some .int)) ({ frames := 3, cells := 0, slots := 0, locals := 71 }) D vwCl (cs_wX ad cI cJ n ky vl sp dp cm sh lk bs pl ss st ch cd) (cs_tX cI cJ) [.ref (ad 0), .int p0, .int p1] (-5) := by
  intro sz
  refine Met.ofW (cc := cX0_deliver) (maxL := 3) (ret := (some .int)) (by decide) rfl ?_
  intro p e s m args below meth c s₁ B hml hv9
  obtain ⟨rfl, hsz, hP, hK⟩ := hv9
  have hx := B.exec
  have hb := B.bytes
  have hr := B.returns
  have hts := atoms_spec (ws := (ws_ yX0_deliver cX0_deliver 3 (some .int))) B.pre
  have hts : ∀ w ∈ lw_all, w.before _ s = true := fun w h => hts w (List.mem_cons_of_mem _ h)
  have hown : s.vm.findClass RX0 = some m.cls := findClass_of_methodNamed B.named
  have hlocks := B.notSynchronized
  subst hsz
  generalize hAe : va_A [] s.heap.size = A
  have hA : ∀ q : Nat, s.heap.size ≤ q → A q := fun q h => by rw [← hAe]; exact Or.inr h
  have hS : va_S A s.heap s.heap [] := va_S.rf
  have hP : va_P D vwCl (cs_wX ad cI cJ n ky vl sp dp cm sh lk bs pl ss st ch cd) s.heap := hP
  have hl := lv_entry ([.ref (ad 0), .int p0, .int p1]) (n := 3) (Nat.le_of_ble_eq_true rfl)
  rw [lg_entry_eq]
  generalize (lg_sl ([.ref (ad 0), .int p0, .int p1]) ++ List.replicate (3 - (lg_sl ([.ref (ad 0), .int p0, .int p1])).length) Slot.unset).toArray = ls at hl ⊢
  have hl : lv_has ls 3 [(0, .ref (ad 0)), (1, .int p0), (2, .int p1)] := hl
  refine lv_aload_n hx hb dX0_deliver_0 rfl (lv_at hl 0 rfl) ?_
  refine lv_iload_n hx hb dX0_deliver_1 rfl (lv_at hl 1 rfl) ?_
  refine cs_callRV (C := RX0) (As := [.int p0]) (rest := []) ⟨hx, hb, hml, hown, hts⟩ (cs_noVersion_t l D h) (cwV 1 hts (lw_V q116 q118 qs5 q12 q119) rfl rfl rfl (by decide +kernel) ⟨Nat.le_of_ble_eq_true rfl, Nat.le_of_ble_eq_true rfl⟩) (va_recv hK hP (ci := 0) (q0 := 0) rfl rfl) hP hK hP hS hA rfl hl.1 rfl (Nat.le_of_ble_eq_true rfl) dX0_deliver_2 ⟨Nat.zero_le _, Nat.zero_le _⟩ (fun H locs hP hS => ?_)
  refine cs_zeq (tgt := 11) hx hb dX0_deliver_5 (by decide) (fun h9 => absurd h9 (by decide)) (fun h9 => ?_)
  refine lv_bipush (v := -5) hx hb dX0_deliver_8 (by decide) ?_
  exact W.iret (v := (-5)) hx hb hr (fun t ht hW => ⟨⟨(-5), (), rfl, rfl, trivial⟩, hS.F ht⟩) hS.2.2 dX0_deliver_10

set_option maxHeartbeats 4000000 in
set_option maxRecDepth 100000 in
theorem cs_deliver_2 (l : Launch) (D : va_G) {ad : Nat → Nat} {cI cJ : ClassId} {n : Nat} {ky : Nat → Nat} {vl : Nat → Int32} {sp : Nat → Int32} {dp : Nat → Int64} {cm : Nat → Int64} {sh : Nat → Int64} {lk : Nat → Int32} {bs : Nat → Option Nat} {pl : Nat → Nat} {ss : Nat → Int64} {st : Nat → Int32} {ch : Nat → Nat} {cd : Nat} (v : Nat) {p1 : Int32} (hv : v < n) (hn : n ≤ 40) (h : cs_bad p1 = true) : cs_MR l yX0_deliver (ws_ yX0_deliver cX0_deliver 3 (some .int)) ({ frames := 3, cells := 0, slots := 0, locals := 71 }) D vwCl (cs_wX ad cI cJ n ky vl sp dp cm sh lk bs pl ss st ch cd) (cs_tX cI cJ) [.ref (ad 0), .int (nI v), .int p1] (-4) := by
  intro sz
  refine Met.ofW (cc := cX0_deliver) (maxL := 3) (ret := (some .int)) (by decide) rfl ?_
  intro p e s m args below meth c s₁ B hml hv9
  obtain ⟨rfl, hsz, hP, hK⟩ := hv9
  have hx := B.exec
  have hb := B.bytes
  have hr := B.returns
  have hts := atoms_spec (ws := (ws_ yX0_deliver cX0_deliver 3 (some .int))) B.pre
  have hts : ∀ w ∈ lw_all, w.before _ s = true := fun w h => hts w (List.mem_cons_of_mem _ h)
  have hown : s.vm.findClass RX0 = some m.cls := findClass_of_methodNamed B.named
  have hlocks := B.notSynchronized
  subst hsz
  generalize hAe : va_A [] s.heap.size = A
  have hA : ∀ q : Nat, s.heap.size ≤ q → A q := fun q h => by rw [← hAe]; exact Or.inr h
  have hS : va_S A s.heap s.heap [] := va_S.rf
  have hP : va_P D vwCl (cs_wX ad cI cJ n ky vl sp dp cm sh lk bs pl ss st ch cd) s.heap := hP
  have hl := lv_entry ([.ref (ad 0), .int (nI v), .int p1]) (n := 3) (Nat.le_of_ble_eq_true rfl)
  rw [lg_entry_eq]
  generalize (lg_sl ([.ref (ad 0), .int (nI v), .int p1]) ++ List.replicate (3 - (lg_sl ([.ref (ad 0), .int (nI v), .int p1])).length) Slot.unset).toArray = ls at hl ⊢
  have hl : lv_has ls 3 [(0, .ref (ad 0)), (1, .int (nI v)), (2, .int p1)] := hl
  refine lv_aload_n hx hb dX0_deliver_0 rfl (lv_at hl 0 rfl) ?_
  refine lv_iload_n hx hb dX0_deliver_1 rfl (lv_at hl 1 rfl) ?_
  refine cs_callRV (C := RX0) (As := [.int (nI v)]) (rest := []) ⟨hx, hb, hml, hown, hts⟩ (cs_noVersion_k l D hv hn) (cwV 1 hts (lw_V q116 q118 qs5 q12 q119) rfl rfl rfl (by decide +kernel) ⟨Nat.le_of_ble_eq_true rfl, Nat.le_of_ble_eq_true rfl⟩) (va_recv hK hP (ci := 0) (q0 := 0) rfl rfl) hP hK hP hS hA rfl hl.1 rfl (Nat.le_of_ble_eq_true rfl) dX0_deliver_2 ⟨Nat.zero_le _, Nat.zero_le _⟩ (fun H locs hP hS => ?_)
  refine cs_zeq (tgt := 11) hx hb dX0_deliver_5 (by decide) (fun h9 => ?_) (fun h9 => absurd h9 (by decide))
  refine lv_iload_n hx hb dX0_deliver_11 rfl (lv_at hl 2 rfl) ?_
  refine cs_callRS (As := [.int p1]) (rest := []) ⟨hx, hb, hml, hown, hts⟩ (cs_badCentre_t l D h) (va_cwS 1 hts (lw_S q109 q110 q12 q111) rfl rfl rfl (by decide +kernel) ⟨Nat.le_of_ble_eq_true rfl, Nat.le_of_ble_eq_true rfl⟩) cs_P0 hK hP hS hA rfl hl.1 rfl (Nat.le_of_ble_eq_true rfl) dX0_deliver_12 ⟨Nat.zero_le _, Nat.zero_le _⟩ (fun H locs hP hS => ?_)
  refine cs_zeq (tgt := 21) hx hb dX0_deliver_15 (by decide) (fun h9 => absurd h9 (by decide)) (fun h9 => ?_)
  refine lv_bipush (v := -4) hx hb dX0_deliver_18 (by decide) ?_
  exact W.iret (v := (-4)) hx hb hr (fun t ht hW => ⟨⟨(-4), (), rfl, rfl, trivial⟩, hS.F ht⟩) hS.2.2 dX0_deliver_20

set_option maxHeartbeats 4000000 in
set_option maxRecDepth 100000 in
theorem cs_deliver_3 (l : Launch) (D : va_G) {ad : Nat → Nat} {cI cJ : ClassId} {n : Nat} {ky : Nat → Nat} {vl : Nat → Int32} {sp : Nat → Int32} {dp : Nat → Int64} {cm : Nat → Int64} {sh : Nat → Int64} {lk : Nat → Int32} {bs : Nat → Option Nat} {pl : Nat → Nat} {ss : Nat → Int64} {st : Nat → Int32} {ch : Nat → Nat} {cd : Nat} (v z : Nat) (hv : v < n) (hn : n ≤ 40) (hz : z < 3) (hc : cs_x (cm z) v = true) : cs_MR l yX0_deliver (ws_ yX0_deliver cX0_deliver 3 (some .int)) ({ frames := 3, cells := 0, slots := 0, locals := 71 }) D vwCl (cs_wX ad cI cJ n ky vl sp dp cm sh lk bs pl ss st ch cd) (cs_tX cI cJ) [.ref (ad 0), .int (nI v), .int (nI z)] (-6) := by
  intro sz
  refine Met.ofW (cc := cX0_deliver) (maxL := 3) (ret := (some .int)) (by decide) rfl ?_
  intro p e s m args below meth c s₁ B hml hv9
  obtain ⟨rfl, hsz, hP, hK⟩ := hv9
  have hx := B.exec
  have hb := B.bytes
  have hr := B.returns
  have hts := atoms_spec (ws := (ws_ yX0_deliver cX0_deliver 3 (some .int))) B.pre
  have hts : ∀ w ∈ lw_all, w.before _ s = true := fun w h => hts w (List.mem_cons_of_mem _ h)
  have hown : s.vm.findClass RX0 = some m.cls := findClass_of_methodNamed B.named
  have hlocks := B.notSynchronized
  subst hsz
  generalize hAe : va_A [] s.heap.size = A
  have hA : ∀ q : Nat, s.heap.size ≤ q → A q := fun q h => by rw [← hAe]; exact Or.inr h
  have hS : va_S A s.heap s.heap [] := va_S.rf
  have hP : va_P D vwCl (cs_wX ad cI cJ n ky vl sp dp cm sh lk bs pl ss st ch cd) s.heap := hP
  have hl := lv_entry ([.ref (ad 0), .int (nI v), .int (nI z)]) (n := 3) (Nat.le_of_ble_eq_true rfl)
  rw [lg_entry_eq]
  generalize (lg_sl ([.ref (ad 0), .int (nI v), .int (nI z)]) ++ List.replicate (3 - (lg_sl ([.ref (ad 0), .int (nI v), .int (nI z)])).length) Slot.unset).toArray = ls at hl ⊢
  have hl : lv_has ls 3 [(0, .ref (ad 0)), (1, .int (nI v)), (2, .int (nI z))] := hl
  refine lv_aload_n hx hb dX0_deliver_0 rfl (lv_at hl 0 rfl) ?_
  refine lv_iload_n hx hb dX0_deliver_1 rfl (lv_at hl 1 rfl) ?_
  refine cs_callRV (C := RX0) (As := [.int (nI v)]) (rest := []) ⟨hx, hb, hml, hown, hts⟩ (cs_noVersion_k l D hv hn) (cwV 1 hts (lw_V q116 q118 qs5 q12 q119) rfl rfl rfl (by decide +kernel) ⟨Nat.le_of_ble_eq_true rfl, Nat.le_of_ble_eq_true rfl⟩) (va_recv hK hP (ci := 0) (q0 := 0) rfl rfl) hP hK hP hS hA rfl hl.1 rfl (Nat.le_of_ble_eq_true rfl) dX0_deliver_2 ⟨Nat.zero_le _, Nat.zero_le _⟩ (fun H locs hP hS => ?_)
  refine cs_zeq (tgt := 11) hx hb dX0_deliver_5 (by decide) (fun h9 => ?_) (fun h9 => absurd h9 (by decide))
  refine lv_iload_n hx hb dX0_deliver_11 rfl (lv_at hl 2 rfl) ?_
  refine cs_callRS (As := [.int (nI z)]) (rest := []) ⟨hx, hb, hml, hown, hts⟩ (cs_badCentre_k l D hz) (va_cwS 1 hts (lw_S q109 q110 q12 q111) rfl rfl rfl (by decide +kernel) ⟨Nat.le_of_ble_eq_true rfl, Nat.le_of_ble_eq_true rfl⟩) cs_P0 hK hP hS hA rfl hl.1 rfl (Nat.le_of_ble_eq_true rfl) dX0_deliver_12 ⟨Nat.zero_le _, Nat.zero_le _⟩ (fun H locs hP hS => ?_)
  refine cs_zeq (tgt := 21) hx hb dX0_deliver_15 (by decide) (fun h9 => ?_) (fun h9 => absurd h9 (by decide))
  refine lv_aload_n hx hb dX0_deliver_21 rfl (lv_at hl 0 rfl) ?_
  refine va_get (D := D) (ci := 0) (v := .ref (ad 5)) (C := RX0) (T := TX0) (N := 14) hx hb hts in_X0 hown hK hP 0 rfl rfl 5 (by decide) (hts _ q27) (fun _ h9 => h9) rfl dX0_deliver_22 ?_
  refine lv_iload_n hx hb dX0_deliver_25 rfl (lv_at hl 2 rfl) ?_
  refine cs_lald hx hb hK hP 5 1 rfl rfl (k := z) (by omega) (by decide) dX0_deliver_26 ?_
  refine lv_iload_n hx hb dX0_deliver_27 rfl (lv_at hl 1 rfl) ?_
  refine cs_callRS (As := [.long (cm z), .int (nI v)]) (rest := []) ⟨hx, hb, hml, hown, hts⟩ (cs_has l D (cm z) v (by omega)) (va_cwS 2 hts (lw_S q90 q91 q12 q92) rfl rfl rfl (by decide +kernel) ⟨Nat.le_of_ble_eq_true rfl, Nat.le_of_ble_eq_true rfl⟩) cs_P0 hK hP hS hA rfl hl.1 rfl (Nat.le_of_ble_eq_true rfl) dX0_deliver_28 ⟨Nat.zero_le _, Nat.zero_le _⟩ (fun H locs hP hS => ?_)
  refine cs_zeq (tgt := 37) hx hb dX0_deliver_31 (by decide) (fun h7 => absurd (hc.symm.trans h7) (by decide)) (fun h7 => ?_)
  refine lv_bipush (v := -6) hx hb dX0_deliver_34 (by decide) ?_
  exact W.iret (v := (-6)) hx hb hr (fun t ht hW => ⟨⟨(-6), (), rfl, rfl, trivial⟩, hS.F ht⟩) hS.2.2 dX0_deliver_36

set_option maxHeartbeats 4000000 in
set_option maxRecDepth 100000 in
theorem cs_deliver_4 (l : Launch) (D : va_G) {ad : Nat → Nat} {cI cJ : ClassId} {n : Nat} {ky : Nat → Nat} {vl : Nat → Int32} {sp : Nat → Int32} {dp : Nat → Int64} {cm : Nat → Int64} {sh : Nat → Int64} {lk : Nat → Int32} {bs : Nat → Option Nat} {pl : Nat → Nat} {ss : Nat → Int64} {st : Nat → Int32} {ch : Nat → Nat} {cd : Nat} (v z : Nat) (hv : v < n) (hn : n ≤ 40) (hz : z < 3) (hc : cs_x (cm z) v = false) (post : Int32 → va_W → Prop) (hM : cs_MW l yX0_arrive (ws_ yX0_arrive cX0_arrive 4 (some .int)) ({ frames := 2, cells := 0, slots := 0, locals := 48 }) D vwCl (cs_wX ad cI cJ n ky vl sp dp cm sh lk bs pl ss st ch cd) (cs_tX cI cJ) [.ref (ad 0), .int (nI z), .int (nI v)] post) : cs_MW l yX0_deliver (ws_ yX0_deliver cX0_deliver 3 (some .int)) ({ frames := 3, cells := 0, slots := 0, locals := 71 }) D vwCl (cs_wX ad cI cJ n ky vl sp dp cm sh lk bs pl ss st ch cd) (cs_tX cI cJ) [.ref (ad 0), .int (nI v), .int (nI z)] post := by
  intro sz
  refine Met.ofW (cc := cX0_deliver) (maxL := 3) (ret := (some .int)) (by decide) rfl ?_
  intro p e s m args below meth c s₁ B hml hv9
  obtain ⟨rfl, hsz, hP, hK, hD0⟩ := hv9
  have hx := B.exec
  have hb := B.bytes
  have hr := B.returns
  have hts := atoms_spec (ws := (ws_ yX0_deliver cX0_deliver 3 (some .int))) B.pre
  have hts : ∀ w ∈ lw_all, w.before _ s = true := fun w h => hts w (List.mem_cons_of_mem _ h)
  have hown : s.vm.findClass RX0 = some m.cls := findClass_of_methodNamed B.named
  have hlocks := B.notSynchronized
  subst hsz
  have hD := hD0.self (sz := s.heap.size)
  generalize hAe : va_A (cs_wX ad cI cJ n ky vl sp dp cm sh lk bs pl ss st ch cd) s.heap.size = A at hD ⊢
  have hA : ∀ q : Nat, s.heap.size ≤ q → A q := fun q h => by rw [← hAe]; exact Or.inr h
  have hS : va_S A s.heap s.heap [] := va_S.rf
  have hP : va_P D vwCl (cs_wX ad cI cJ n ky vl sp dp cm sh lk bs pl ss st ch cd) s.heap := hP
  have hl := lv_entry ([.ref (ad 0), .int (nI v), .int (nI z)]) (n := 3) (Nat.le_of_ble_eq_true rfl)
  rw [lg_entry_eq]
  generalize (lg_sl ([.ref (ad 0), .int (nI v), .int (nI z)]) ++ List.replicate (3 - (lg_sl ([.ref (ad 0), .int (nI v), .int (nI z)])).length) Slot.unset).toArray = ls at hl ⊢
  have hl : lv_has ls 3 [(0, .ref (ad 0)), (1, .int (nI v)), (2, .int (nI z))] := hl
  refine lv_aload_n hx hb dX0_deliver_0 rfl (lv_at hl 0 rfl) ?_
  refine lv_iload_n hx hb dX0_deliver_1 rfl (lv_at hl 1 rfl) ?_
  refine cs_callRV (C := RX0) (As := [.int (nI v)]) (rest := []) ⟨hx, hb, hml, hown, hts⟩ (cs_noVersion_k l D hv hn) (cwV 1 hts (lw_V q116 q118 qs5 q12 q119) rfl rfl rfl (by decide +kernel) ⟨Nat.le_of_ble_eq_true rfl, Nat.le_of_ble_eq_true rfl⟩) (va_recv hK hP (ci := 0) (q0 := 0) rfl rfl) hP hK hP hS hA rfl hl.1 rfl (Nat.le_of_ble_eq_true rfl) dX0_deliver_2 ⟨Nat.zero_le _, Nat.zero_le _⟩ (fun H locs hP hS => ?_)
  refine cs_zeq (tgt := 11) hx hb dX0_deliver_5 (by decide) (fun h9 => ?_) (fun h9 => absurd h9 (by decide))
  refine lv_iload_n hx hb dX0_deliver_11 rfl (lv_at hl 2 rfl) ?_
  refine cs_callRS (As := [.int (nI z)]) (rest := []) ⟨hx, hb, hml, hown, hts⟩ (cs_badCentre_k l D hz) (va_cwS 1 hts (lw_S q109 q110 q12 q111) rfl rfl rfl (by decide +kernel) ⟨Nat.le_of_ble_eq_true rfl, Nat.le_of_ble_eq_true rfl⟩) cs_P0 hK hP hS hA rfl hl.1 rfl (Nat.le_of_ble_eq_true rfl) dX0_deliver_12 ⟨Nat.zero_le _, Nat.zero_le _⟩ (fun H locs hP hS => ?_)
  refine cs_zeq (tgt := 21) hx hb dX0_deliver_15 (by decide) (fun h9 => ?_) (fun h9 => absurd h9 (by decide))
  refine lv_aload_n hx hb dX0_deliver_21 rfl (lv_at hl 0 rfl) ?_
  refine va_get (D := D) (ci := 0) (v := .ref (ad 5)) (C := RX0) (T := TX0) (N := 14) hx hb hts in_X0 hown hK hP 0 rfl rfl 5 (by decide) (hts _ q27) (fun _ h9 => h9) rfl dX0_deliver_22 ?_
  refine lv_iload_n hx hb dX0_deliver_25 rfl (lv_at hl 2 rfl) ?_
  refine cs_lald hx hb hK hP 5 1 rfl rfl (k := z) (by omega) (by decide) dX0_deliver_26 ?_
  refine lv_iload_n hx hb dX0_deliver_27 rfl (lv_at hl 1 rfl) ?_
  refine cs_callRS (As := [.long (cm z), .int (nI v)]) (rest := []) ⟨hx, hb, hml, hown, hts⟩ (cs_has l D (cm z) v (by omega)) (va_cwS 2 hts (lw_S q90 q91 q12 q92) rfl rfl rfl (by decide +kernel) ⟨Nat.le_of_ble_eq_true rfl, Nat.le_of_ble_eq_true rfl⟩) cs_P0 hK hP hS hA rfl hl.1 rfl (Nat.le_of_ble_eq_true rfl) dX0_deliver_28 ⟨Nat.zero_le _, Nat.zero_le _⟩ (fun H locs hP hS => ?_)
  refine cs_zeq (tgt := 37) hx hb dX0_deliver_31 (by decide) (fun h7 => ?_) (fun h7 => absurd (hc.symm.trans h7) (by decide))
  refine lv_aload_n hx hb dX0_deliver_37 rfl (lv_at hl 0 rfl) ?_
  refine lv_iload_n hx hb dX0_deliver_38 rfl (lv_at hl 2 rfl) ?_
  refine lv_iload_n hx hb dX0_deliver_39 rfl (lv_at hl 1 rfl) ?_
  refine cs_callWV (C := RX0) (As := [.int (nI z), .int (nI v)]) (rest := []) ⟨hx, hb, hml, hown, hts⟩ hM (cwV 2 hts (lw_V q74 q76 qs0 q12 q77) rfl rfl rfl (by decide +kernel) ⟨Nat.le_of_ble_eq_true rfl, Nat.le_of_ble_eq_true rfl⟩) (va_recv hK hP (ci := 0) (q0 := 0) rfl rfl) hK hP hD hS hA rfl hl.1 rfl (Nat.le_of_ble_eq_true rfl) dX0_deliver_40 ⟨Nat.zero_le _, Nat.zero_le _⟩ (fun r w' H locs hq hP hD hS => ?_)
  exact W.iret (v := r) hx hb hr (fun t ht hW => ⟨⟨r, w', rfl, hq, by rw [ht]; exact hP, hD⟩, hS.F ht⟩) hS.2.2 dX0_deliver_43

set_option maxHeartbeats 4000000 in
set_option maxRecDepth 100000 in
theorem cs_deliverAll_1 (l : Launch) (D : va_G) {ad : Nat → Nat} {cI cJ : ClassId} {n : Nat} {ky : Nat → Nat} {vl : Nat → Int32} {sp : Nat → Int32} {dp : Nat → Int64} {cm : Nat → Int64} {sh : Nat → Int64} {lk : Nat → Int32} {bs : Nat → Option Nat} {pl : Nat → Nat} {ss : Nat → Int64} {st : Nat → Int32} {ch : Nat → Nat} {cd : Nat} {p0 : Int32} (h : cs_bad p0 = true) : cs_MR l yX0_deliverAll (ws_ yX0_deliverAll cX0_deliverAll 5 (some .int)) ({ frames := 3, cells := 0, slots := 0, locals := 71 }) D vwCl (cs_wX ad cI cJ n ky vl sp dp cm sh lk bs pl ss st ch cd) (cs_tX cI cJ) [.ref (ad 0), .int p0] (-4) := by
  intro sz
  refine Met.ofW (cc := cX0_deliverAll) (maxL := 5) (ret := (some .int)) (by decide) rfl ?_
  intro p e s m args below meth c s₁ B hml hv9
  obtain ⟨rfl, hsz, hP, hK⟩ := hv9
  have hx := B.exec
  have hb := B.bytes
  have hr := B.returns
  have hts := atoms_spec (ws := (ws_ yX0_deliverAll cX0_deliverAll 5 (some .int))) B.pre
  have hts : ∀ w ∈ lw_all, w.before _ s = true := fun w h => hts w (List.mem_cons_of_mem _ h)
  have hown : s.vm.findClass RX0 = some m.cls := findClass_of_methodNamed B.named
  have hlocks := B.notSynchronized
  subst hsz
  generalize hAe : va_A [] s.heap.size = A
  have hA : ∀ q : Nat, s.heap.size ≤ q → A q := fun q h => by rw [← hAe]; exact Or.inr h
  have hS : va_S A s.heap s.heap [] := va_S.rf
  have hP : va_P D vwCl (cs_wX ad cI cJ n ky vl sp dp cm sh lk bs pl ss st ch cd) s.heap := hP
  have hl := lv_entry ([.ref (ad 0), .int p0]) (n := 5) (Nat.le_of_ble_eq_true rfl)
  rw [lg_entry_eq]
  generalize (lg_sl ([.ref (ad 0), .int p0]) ++ List.replicate (5 - (lg_sl ([.ref (ad 0), .int p0])).length) Slot.unset).toArray = ls at hl ⊢
  have hl : lv_has ls 5 [(0, .ref (ad 0)), (1, .int p0)] := hl
  refine lv_iload_n hx hb dX0_deliverAll_0 rfl (lv_at hl 1 rfl) ?_
  refine cs_callRS (As := [.int p0]) (rest := []) ⟨hx, hb, hml, hown, hts⟩ (cs_badCentre_t l D h) (va_cwS 1 hts (lw_S q109 q110 q12 q111) rfl rfl rfl (by decide +kernel) ⟨Nat.le_of_ble_eq_true rfl, Nat.le_of_ble_eq_true rfl⟩) cs_P0 hK hP hS hA rfl hl.1 rfl (Nat.le_of_ble_eq_true rfl) dX0_deliverAll_1 ⟨Nat.zero_le _, Nat.zero_le _⟩ (fun H locs hP hS => ?_)
  refine cs_zeq (tgt := 10) hx hb dX0_deliverAll_4 (by decide) (fun h9 => absurd h9 (by decide)) (fun h9 => ?_)
  refine lv_bipush (v := -4) hx hb dX0_deliverAll_7 (by decide) ?_
  exact W.iret (v := (-4)) hx hb hr (fun t ht hW => ⟨⟨(-4), (), rfl, rfl, trivial⟩, hS.F ht⟩) hS.2.2 dX0_deliverAll_9

set_option maxHeartbeats 4000000 in
set_option maxRecDepth 100000 in
theorem cs_deliverAll_loop {p : Program} {l : Launch} {e : Env} {R : Room} {s : State} {m : MethodId} {args : Array Value} {below : List Frame} {meth : Method} {c : Code} {Q : State → Prop} {D : va_G} {A : Nat → Prop} {H0 : Heap} (hx : p.tables.exec = Jvm.exec) (hb : c.code = cX0_deliverAll) (hml : c.maxLocals = 5) (hown : s.vm.findClass RX0 = some m.cls) (hts : ∀ w ∈ lw_all, w.before args s = true) (hA : ∀ q : Nat, H0.size ≤ q → A q) (hR : 3 ≤ R.frames ∧ 71 ≤ R.locals) {ad : Nat → Nat} {cI cJ : ClassId} (hK : va_K D vwCl (cs_tX cI cJ) s) {n : Nat} {ky : Nat → Nat} {vl : Nat → Int32} {sp : Nat → Int32} {dp : Nat → Int64} {pl : Nat → Nat} {ss : Nat → Int64} {st : Nat → Int32} (z : Nat) (hz : z < 3) (hn : n ≤ 40) (J : Nat → Nat → (Nat → Int64) → (Nat → Int64) → (Nat → Int32) → (Nat → Option Nat) → (Nat → Nat) → Nat → Prop) (hJ1 : ∀ v a cm sh lk bs ch cd, J v a cm sh lk bs ch cd → v < n → cs_x (cm z) v = true → J (v + 1) a cm sh lk bs ch cd) (hJ2 : ∀ v a cm sh lk bs ch cd, J v a cm sh lk bs ch cd → v < n → cs_x (cm z) v = false → cs_MW l yX0_arrive (ws_ yX0_arrive cX0_arrive 4 (some .int)) ({ frames := 2, cells := 0, slots := 0, locals := 48 }) D vwCl (cs_wX ad cI cJ n ky vl sp dp cm sh lk bs pl ss st ch cd) (cs_tX cI cJ) [.ref (ad 0), .int (nI z), .int (nI v)] (fun r w' => ∃ (k : Nat) (cm1 sh1 : Nat → Int64) (lk1 : Nat → Int32) (bs1 : Nat → Option Nat) (ch1 : Nat → Nat) (cd1 : Nat), r = nI k ∧ J (v + 1) (a + k) cm1 sh1 lk1 bs1 ch1 cd1 ∧ w' = cs_wX ad cI cJ n ky vl sp dp cm1 sh1 lk1 bs1 pl ss st ch1 cd1)) (hend : ∀ a cm sh lk bs ch cd, J n a cm sh lk bs ch cd → ∀ (H : Heap) (locs : List Loc), va_P D vwCl (cs_wX ad cI cJ n ky vl sp dp cm sh lk bs pl ss st ch cd) H → va_D A (cs_wX ad cI cJ n ky vl sp dp cm sh lk bs pl ss st ch cd) → va_S A H0 H locs → ∀ ls : Array Slot, lv_has ls 5 [(0, .ref (ad 0)), (1, .int (nI z)), (2, .int (nI a)), (3, .int (nI n))] → W p l e R s m args below meth c H locs 0 0 Q (F0 m 54 ls [])) :
    ∀ (j v : Nat), v + j = n → ∀ (a : Nat) (cm sh : Nat → Int64) (lk : Nat → Int32) (bs : Nat → Option Nat) (ch : Nat → Nat) (cd : Nat), J v a cm sh lk bs ch cd → ∀ (H : Heap) (locs : List Loc), va_P D vwCl (cs_wX ad cI cJ n ky vl sp dp cm sh lk bs pl ss st ch cd) H → va_D A (cs_wX ad cI cJ n ky vl sp dp cm sh lk bs pl ss st ch cd) → va_S A H0 H locs → ∀ ls : Array Slot, lv_has ls 5 [(0, .ref (ad 0)), (1, .int (nI z)), (2, .int (nI a)), (3, .int (nI v))] → W p l e R s m args below meth c H locs 0 0 Q (F0 m 14 ls []) := by
  intro j
  induction j with
  | zero =>
    intro v hv a cm sh lk bs ch cd hJ H locs hP hD hS ls hl
    refine lv_iload_n hx hb dX0_deliverAll_14 rfl (lv_at hl 3 rfl) ?_
    refine lv_aload_n hx hb dX0_deliverAll_15 rfl (lv_at hl 0 rfl) ?_
    refine va_get (D := D) (ci := 0) (v := .int (nI n)) (C := RX0) (T := TX0) (N := 14) hx hb hts in_X0 hown hK hP 0 rfl rfl 0 (by decide) (hts _ q22) (fun _ h9 => h9) rfl dX0_deliverAll_16 ?_
    refine cs_jge (tgt := 54) hx hb dX0_deliverAll_19 (by decide) (by omega) (by omega) (fun h => ?_) (fun h => absurd h (by omega))
    have hv : v = n := by omega
    subst hv
    exact hend a cm sh lk bs ch cd hJ H locs hP hD hS ls hl
  | succ j ih =>
    intro v hv a cm sh lk bs ch cd hJ H locs hP hD hS ls hl
    refine lv_iload_n hx hb dX0_deliverAll_14 rfl (lv_at hl 3 rfl) ?_
    refine lv_aload_n hx hb dX0_deliverAll_15 rfl (lv_at hl 0 rfl) ?_
    refine va_get (D := D) (ci := 0) (v := .int (nI n)) (C := RX0) (T := TX0) (N := 14) hx hb hts in_X0 hown hK hP 0 rfl rfl 0 (by decide) (hts _ q22) (fun _ h9 => h9) rfl dX0_deliverAll_16 ?_
    refine cs_jge (tgt := 54) hx hb dX0_deliverAll_19 (by decide) (by omega) (by omega) (fun h => absurd h (by omega)) (fun h => ?_)
    refine lv_aload_n hx hb dX0_deliverAll_22 rfl (lv_at hl 0 rfl) ?_
    refine va_get (D := D) (ci := 0) (v := .ref (ad 5)) (C := RX0) (T := TX0) (N := 14) hx hb hts in_X0 hown hK hP 0 rfl rfl 5 (by decide) (hts _ q27) (fun _ h9 => h9) rfl dX0_deliverAll_23 ?_
    refine lv_iload_n hx hb dX0_deliverAll_26 rfl (lv_at hl 1 rfl) ?_
    refine cs_lald hx hb hK hP 5 1 rfl rfl (k := z) (by omega) (by decide) dX0_deliverAll_27 ?_
    refine lv_iload_n hx hb dX0_deliverAll_28 rfl (lv_at hl 3 rfl) ?_
    refine cs_callRS (As := [.long (cm z), .int (nI v)]) (rest := []) ⟨hx, hb, hml, hown, hts⟩ (cs_has l D (cm z) v (by omega)) (va_cwS 2 hts (lw_S q90 q91 q12 q92) rfl rfl rfl (by decide +kernel) ⟨Nat.le_trans (Nat.le_of_ble_eq_true rfl) hR.1, Nat.le_trans (Nat.le_of_ble_eq_true rfl) hR.2⟩) cs_P0 hK hP hS hA rfl hl.1 rfl (Nat.le_of_ble_eq_true rfl) dX0_deliverAll_29 ⟨Nat.zero_le _, Nat.zero_le _⟩ (fun H locs hP hS => ?_)
    refine lv_istore (lv' := [(4, .int (cs_b (cs_x (cm z) v))), (0, .ref (ad 0)), (1, .int (nI z)), (2, .int (nI a)), (3, .int (nI v))]) hx hb dX0_deliverAll_32 hl (by decide) rfl (fun ls hl => ?_)
    refine lv_iload hx hb dX0_deliverAll_34 (lv_at hl 0 rfl) ?_
    refine cs_zne (tgt := 48) hx hb dX0_deliverAll_36 (by decide) (fun h7 => ?_) (fun h7 => ?_)
    · refine lv_iinc (v := nI (v + 1)) (lv' := [(3, .int (nI (v + 1))), (4, .int (cs_b (cs_x (cm z) v))), (0, .ref (ad 0)), (1, .int (nI z)), (2, .int (nI a))]) hx hb dX0_deliverAll_48 hl (k := 4) rfl (cs_inc _) (by decide) rfl (fun ls hl => ?_)
      refine lv_goto (tgt := 14) hx hb dX0_deliverAll_51 (by decide) ?_
      exact ih (v + 1) (by omega) a cm sh lk bs ch cd (hJ1 v a cm sh lk bs ch cd hJ h h7) H locs hP hD hS ls (lv_sub hl [2, 3, 4, 0] rfl)
    · refine lv_iload_n hx hb dX0_deliverAll_39 rfl (lv_at hl 3 rfl) ?_
      refine lv_aload_n hx hb dX0_deliverAll_40 rfl (lv_at hl 1 rfl) ?_
      refine lv_iload_n hx hb dX0_deliverAll_41 rfl (lv_at hl 2 rfl) ?_
      refine lv_iload_n hx hb dX0_deliverAll_42 rfl (lv_at hl 4 rfl) ?_
      refine cs_callWV (C := RX0) (As := [.int (nI z), .int (nI v)]) (rest := [.int (nI a)]) ⟨hx, hb, hml, hown, hts⟩ (hJ2 v a cm sh lk bs ch cd hJ h h7) (cwV 2 hts (lw_V q74 q76 qs0 q12 q77) rfl rfl rfl (by decide +kernel) ⟨Nat.le_trans (Nat.le_of_ble_eq_true rfl) hR.1, Nat.le_trans (Nat.le_of_ble_eq_true rfl) hR.2⟩) (va_recv hK hP (ci := 0) (q0 := 0) rfl rfl) hK hP hD hS hA rfl hl.1 rfl (Nat.le_of_ble_eq_true rfl) dX0_deliverAll_43 ⟨Nat.zero_le _, Nat.zero_le _⟩ (fun r w' H locs hq hP hD hS => ?_)
      obtain ⟨k, cm1, sh1, lk1, bs1, ch1, cd1, rfl, hJ3, rfl⟩ := hq
      refine cs_iadd hx hb dX0_deliverAll_46 ?_
      refine lv_istore_n (lv' := [(2, .int (nI (a + k))), (4, .int (cs_b (cs_x (cm z) v))), (0, .ref (ad 0)), (1, .int (nI z)), (3, .int (nI v))]) hx hb dX0_deliverAll_47 rfl hl (by decide) rfl (fun ls hl => ?_)
      refine lv_iinc (v := nI (v + 1)) (lv' := [(3, .int (nI (v + 1))), (2, .int (nI (a + k))), (4, .int (cs_b (cs_x (cm z) v))), (0, .ref (ad 0)), (1, .int (nI z))]) hx hb dX0_deliverAll_48 hl (k := 4) rfl (cs_inc _) (by decide) rfl (fun ls hl => ?_)
      refine lv_goto (tgt := 14) hx hb dX0_deliverAll_51 (by decide) ?_
      exact ih (v + 1) (by omega) (a + k) cm1 sh1 lk1 bs1 ch1 cd1 hJ3 H locs hP hD hS ls (lv_sub hl [3, 4, 1, 0] rfl)

set_option maxHeartbeats 4000000 in
set_option maxRecDepth 100000 in
theorem cs_deliverAll_2 (l : Launch) (D : va_G) {ad : Nat → Nat} {cI cJ : ClassId} {n : Nat} {ky : Nat → Nat} {vl : Nat → Int32} {sp : Nat → Int32} {dp : Nat → Int64} {cm : Nat → Int64} {sh : Nat → Int64} {lk : Nat → Int32} {bs : Nat → Option Nat} {pl : Nat → Nat} {ss : Nat → Int64} {st : Nat → Int32} {ch : Nat → Nat} {cd : Nat} (z : Nat) (hz : z < 3) (hn : n ≤ 40) (post : Int32 → va_W → Prop) (J : Nat → Nat → (Nat → Int64) → (Nat → Int64) → (Nat → Int32) → (Nat → Option Nat) → (Nat → Nat) → Nat → Prop) (hJ1 : ∀ v a cm sh lk bs ch cd, J v a cm sh lk bs ch cd → v < n → cs_x (cm z) v = true → J (v + 1) a cm sh lk bs ch cd) (hJ2 : ∀ v a cm sh lk bs ch cd, J v a cm sh lk bs ch cd → v < n → cs_x (cm z) v = false → cs_MW l yX0_arrive (ws_ yX0_arrive cX0_arrive 4 (some .int)) ({ frames := 2, cells := 0, slots := 0, locals := 48 }) D vwCl (cs_wX ad cI cJ n ky vl sp dp cm sh lk bs pl ss st ch cd) (cs_tX cI cJ) [.ref (ad 0), .int (nI z), .int (nI v)] (fun r w' => ∃ (k : Nat) (cm1 sh1 : Nat → Int64) (lk1 : Nat → Int32) (bs1 : Nat → Option Nat) (ch1 : Nat → Nat) (cd1 : Nat), r = nI k ∧ J (v + 1) (a + k) cm1 sh1 lk1 bs1 ch1 cd1 ∧ w' = cs_wX ad cI cJ n ky vl sp dp cm1 sh1 lk1 bs1 pl ss st ch1 cd1)) (hJ0 : J 0 0 cm sh lk bs ch cd) (hp : ∀ a cm sh lk bs ch cd, J n a cm sh lk bs ch cd → post (nI a) (cs_wX ad cI cJ n ky vl sp dp cm sh lk bs pl ss st ch cd)) : cs_MW l yX0_deliverAll (ws_ yX0_deliverAll cX0_deliverAll 5 (some .int)) ({ frames := 3, cells := 0, slots := 0, locals := 71 }) D vwCl (cs_wX ad cI cJ n ky vl sp dp cm sh lk bs pl ss st ch cd) (cs_tX cI cJ) [.ref (ad 0), .int (nI z)] post := by
  intro sz
  refine Met.ofW (cc := cX0_deliverAll) (maxL := 5) (ret := (some .int)) (by decide) rfl ?_
  intro p e s m args below meth c s₁ B hml hv9
  obtain ⟨rfl, hsz, hP, hK, hD0⟩ := hv9
  have hx := B.exec
  have hb := B.bytes
  have hr := B.returns
  have hts := atoms_spec (ws := (ws_ yX0_deliverAll cX0_deliverAll 5 (some .int))) B.pre
  have hts : ∀ w ∈ lw_all, w.before _ s = true := fun w h => hts w (List.mem_cons_of_mem _ h)
  have hown : s.vm.findClass RX0 = some m.cls := findClass_of_methodNamed B.named
  have hlocks := B.notSynchronized
  subst hsz
  have hD := hD0.self (sz := s.heap.size)
  generalize hAe : va_A (cs_wX ad cI cJ n ky vl sp dp cm sh lk bs pl ss st ch cd) s.heap.size = A at hD ⊢
  have hA : ∀ q : Nat, s.heap.size ≤ q → A q := fun q h => by rw [← hAe]; exact Or.inr h
  have hS : va_S A s.heap s.heap [] := va_S.rf
  have hP : va_P D vwCl (cs_wX ad cI cJ n ky vl sp dp cm sh lk bs pl ss st ch cd) s.heap := hP
  have hl := lv_entry ([.ref (ad 0), .int (nI z)]) (n := 5) (Nat.le_of_ble_eq_true rfl)
  rw [lg_entry_eq]
  generalize (lg_sl ([.ref (ad 0), .int (nI z)]) ++ List.replicate (5 - (lg_sl ([.ref (ad 0), .int (nI z)])).length) Slot.unset).toArray = ls at hl ⊢
  have hl : lv_has ls 5 [(0, .ref (ad 0)), (1, .int (nI z))] := hl
  refine lv_iload_n hx hb dX0_deliverAll_0 rfl (lv_at hl 1 rfl) ?_
  refine cs_callRS (As := [.int (nI z)]) (rest := []) ⟨hx, hb, hml, hown, hts⟩ (cs_badCentre_k l D hz) (va_cwS 1 hts (lw_S q109 q110 q12 q111) rfl rfl rfl (by decide +kernel) ⟨Nat.le_of_ble_eq_true rfl, Nat.le_of_ble_eq_true rfl⟩) cs_P0 hK hP hS hA rfl hl.1 rfl (Nat.le_of_ble_eq_true rfl) dX0_deliverAll_1 ⟨Nat.zero_le _, Nat.zero_le _⟩ (fun H locs hP hS => ?_)
  refine cs_zeq (tgt := 10) hx hb dX0_deliverAll_4 (by decide) (fun h9 => ?_) (fun h9 => absurd h9 (by decide))
  refine lv_iconst (v := nI 0) hx hb dX0_deliverAll_10 (by decide) ?_
  refine lv_istore_n (lv' := [(2, .int (nI 0)), (0, .ref (ad 0)), (1, .int (nI z))]) hx hb dX0_deliverAll_11 rfl hl (by decide) rfl (fun ls hl => ?_)
  refine lv_iconst (v := nI 0) hx hb dX0_deliverAll_12 (by decide) ?_
  refine lv_istore_n (lv' := [(3, .int (nI 0)), (2, .int (nI 0)), (0, .ref (ad 0)), (1, .int (nI z))]) hx hb dX0_deliverAll_13 rfl hl (by decide) rfl (fun ls hl => ?_)
  refine cs_deliverAll_loop hx hb hml hown hts hA ⟨Nat.le_of_ble_eq_true rfl, Nat.le_of_ble_eq_true rfl⟩ hK z hz hn J hJ1 hJ2 (fun a cm sh lk bs ch cd hJ H locs hP hD hS ls hl => ?_) n 0 (by omega) 0 cm sh lk bs ch cd hJ0 _ _ hP hD hS ls (lv_sub hl [2, 3, 1, 0] rfl)
  refine lv_iload_n hx hb dX0_deliverAll_54 rfl (lv_at hl 2 rfl) ?_
  exact W.iret (v := (nI a)) hx hb hr (fun t ht hW => ⟨⟨(nI a), cs_wX ad cI cJ n ky vl sp dp cm sh lk bs pl ss st ch cd, rfl, hp a cm sh lk bs ch cd hJ, by rw [ht]; exact hP, hD⟩, hS.F ht⟩) hS.2.2 dX0_deliverAll_55

set_option maxHeartbeats 4000000 in
set_option maxRecDepth 100000 in
theorem cs_write_1 (l : Launch) (D : va_G) {ad : Nat → Nat} {cI cJ : ClassId} {n : Nat} {ky : Nat → Nat} {vl : Nat → Int32} {sp : Nat → Int32} {dp : Nat → Int64} {cm : Nat → Int64} {sh : Nat → Int64} {lk : Nat → Int32} {bs : Nat → Option Nat} {pl : Nat → Nat} {ss : Nat → Int64} {st : Nat → Int32} {ch : Nat → Nat} {cd : Nat} {p0 p1 p2 : Int32} (h : cs_bad p0 = true) : cs_MR l yX0_write (ws_ yX0_write cX0_write 5 (some .int)) ({ frames := 3, cells := 0, slots := 0, locals := 71 }) D vwCl (cs_wX ad cI cJ n ky vl sp dp cm sh lk bs pl ss st ch cd) (cs_tX cI cJ) [.ref (ad 0), .int p0, .int p1, .int p2] (-1) := by
  intro sz
  refine Met.ofW (cc := cX0_write) (maxL := 5) (ret := (some .int)) (by decide) rfl ?_
  intro p e s m args below meth c s₁ B hml hv9
  obtain ⟨rfl, hsz, hP, hK⟩ := hv9
  have hx := B.exec
  have hb := B.bytes
  have hr := B.returns
  have hts := atoms_spec (ws := (ws_ yX0_write cX0_write 5 (some .int))) B.pre
  have hts : ∀ w ∈ lw_all, w.before _ s = true := fun w h => hts w (List.mem_cons_of_mem _ h)
  have hown : s.vm.findClass RX0 = some m.cls := findClass_of_methodNamed B.named
  have hlocks := B.notSynchronized
  subst hsz
  generalize hAe : va_A [] s.heap.size = A
  have hA : ∀ q : Nat, s.heap.size ≤ q → A q := fun q h => by rw [← hAe]; exact Or.inr h
  have hS : va_S A s.heap s.heap [] := va_S.rf
  have hP : va_P D vwCl (cs_wX ad cI cJ n ky vl sp dp cm sh lk bs pl ss st ch cd) s.heap := hP
  have hl := lv_entry ([.ref (ad 0), .int p0, .int p1, .int p2]) (n := 5) (Nat.le_of_ble_eq_true rfl)
  rw [lg_entry_eq]
  generalize (lg_sl ([.ref (ad 0), .int p0, .int p1, .int p2]) ++ List.replicate (5 - (lg_sl ([.ref (ad 0), .int p0, .int p1, .int p2])).length) Slot.unset).toArray = ls at hl ⊢
  have hl : lv_has ls 5 [(0, .ref (ad 0)), (1, .int p0), (2, .int p1), (3, .int p2)] := hl
  refine lv_iload_n hx hb dX0_write_0 rfl (lv_at hl 1 rfl) ?_
  refine cs_callRS (As := [.int p0]) (rest := []) ⟨hx, hb, hml, hown, hts⟩ (cs_badClient_t l D h) (va_cwS 1 hts (lw_S q71 q72 q12 q73) rfl rfl rfl (by decide +kernel) ⟨Nat.le_of_ble_eq_true rfl, Nat.le_of_ble_eq_true rfl⟩) cs_P0 hK hP hS hA rfl hl.1 rfl (Nat.le_of_ble_eq_true rfl) dX0_write_1 ⟨Nat.zero_le _, Nat.zero_le _⟩ (fun H locs hP hS => ?_)
  refine cs_zeq (tgt := 9) hx hb dX0_write_4 (by decide) (fun h9 => absurd h9 (by decide)) (fun h9 => ?_)
  refine lv_iconst (v := -1) hx hb dX0_write_7 (by decide) ?_
  exact W.iret (v := (-1)) hx hb hr (fun t ht hW => ⟨⟨(-1), (), rfl, rfl, trivial⟩, hS.F ht⟩) hS.2.2 dX0_write_8

set_option maxHeartbeats 4000000 in
set_option maxRecDepth 100000 in
theorem cs_write_2 (l : Launch) (D : va_G) {ad : Nat → Nat} {cI cJ : ClassId} {n : Nat} {ky : Nat → Nat} {vl : Nat → Int32} {sp : Nat → Int32} {dp : Nat → Int64} {cm : Nat → Int64} {sh : Nat → Int64} {lk : Nat → Int32} {bs : Nat → Option Nat} {pl : Nat → Nat} {ss : Nat → Int64} {st : Nat → Int32} {ch : Nat → Nat} {cd : Nat} (u : Nat) {p1 p2 : Int32} (hu : u < 3) (h : p1 < 0 ∨ ¬ p1 < 6) : cs_MR l yX0_write (ws_ yX0_write cX0_write 5 (some .int)) ({ frames := 3, cells := 0, slots := 0, locals := 71 }) D vwCl (cs_wX ad cI cJ n ky vl sp dp cm sh lk bs pl ss st ch cd) (cs_tX cI cJ) [.ref (ad 0), .int (nI u), .int p1, .int p2] (-2) := by
  intro sz
  refine Met.ofW (cc := cX0_write) (maxL := 5) (ret := (some .int)) (by decide) rfl ?_
  intro p e s m args below meth c s₁ B hml hv9
  obtain ⟨rfl, hsz, hP, hK⟩ := hv9
  have hx := B.exec
  have hb := B.bytes
  have hr := B.returns
  have hts := atoms_spec (ws := (ws_ yX0_write cX0_write 5 (some .int))) B.pre
  have hts : ∀ w ∈ lw_all, w.before _ s = true := fun w h => hts w (List.mem_cons_of_mem _ h)
  have hown : s.vm.findClass RX0 = some m.cls := findClass_of_methodNamed B.named
  have hlocks := B.notSynchronized
  subst hsz
  generalize hAe : va_A [] s.heap.size = A
  have hA : ∀ q : Nat, s.heap.size ≤ q → A q := fun q h => by rw [← hAe]; exact Or.inr h
  have hS : va_S A s.heap s.heap [] := va_S.rf
  have hP : va_P D vwCl (cs_wX ad cI cJ n ky vl sp dp cm sh lk bs pl ss st ch cd) s.heap := hP
  have hl := lv_entry ([.ref (ad 0), .int (nI u), .int p1, .int p2]) (n := 5) (Nat.le_of_ble_eq_true rfl)
  rw [lg_entry_eq]
  generalize (lg_sl ([.ref (ad 0), .int (nI u), .int p1, .int p2]) ++ List.replicate (5 - (lg_sl ([.ref (ad 0), .int (nI u), .int p1, .int p2])).length) Slot.unset).toArray = ls at hl ⊢
  have hl : lv_has ls 5 [(0, .ref (ad 0)), (1, .int (nI u)), (2, .int p1), (3, .int p2)] := hl
  refine lv_iload_n hx hb dX0_write_0 rfl (lv_at hl 1 rfl) ?_
  refine cs_callRS (As := [.int (nI u)]) (rest := []) ⟨hx, hb, hml, hown, hts⟩ (cs_badClient_k l D hu) (va_cwS 1 hts (lw_S q71 q72 q12 q73) rfl rfl rfl (by decide +kernel) ⟨Nat.le_of_ble_eq_true rfl, Nat.le_of_ble_eq_true rfl⟩) cs_P0 hK hP hS hA rfl hl.1 rfl (Nat.le_of_ble_eq_true rfl) dX0_write_1 ⟨Nat.zero_le _, Nat.zero_le _⟩ (fun H locs hP hS => ?_)
  refine cs_zeq (tgt := 9) hx hb dX0_write_4 (by decide) (fun h9 => ?_) (fun h9 => absurd h9 (by decide))
  refine lv_iload_n hx hb dX0_write_9 rfl (lv_at hl 2 rfl) ?_
  refine lv_if_lt (tgt := 19) hx hb dX0_write_10 (by decide) (fun h9 => ?_) (fun h9 => ?_)
  · refine lv_bipush (v := -2) hx hb dX0_write_19 (by decide) ?_
    exact W.iret (v := (-2)) hx hb hr (fun t ht hW => ⟨⟨(-2), (), rfl, rfl, trivial⟩, hS.F ht⟩) hS.2.2 dX0_write_21
  · refine lv_iload_n hx hb dX0_write_13 rfl (lv_at hl 2 rfl) ?_
    refine lv_bipush (v := 6) hx hb dX0_write_14 (by decide) ?_
    refine lv_icmp_lt (tgt := 22) hx hb dX0_write_16 (by decide) (fun h8 => absurd h (fun q => q.elim h9 (fun z => z h8))) (fun h8 => ?_)
    refine lv_bipush (v := -2) hx hb dX0_write_19 (by decide) ?_
    exact W.iret (v := (-2)) hx hb hr (fun t ht hW => ⟨⟨(-2), (), rfl, rfl, trivial⟩, hS.F ht⟩) hS.2.2 dX0_write_21

set_option maxHeartbeats 4000000 in
set_option maxRecDepth 100000 in
theorem cs_write_3 (l : Launch) (D : va_G) {ad : Nat → Nat} {cI cJ : ClassId} {n : Nat} {ky : Nat → Nat} {vl : Nat → Int32} {sp : Nat → Int32} {dp : Nat → Int64} {cm : Nat → Int64} {sh : Nat → Int64} {lk : Nat → Int32} {bs : Nat → Option Nat} {pl : Nat → Nat} {ss : Nat → Int64} {st : Nat → Int32} {ch : Nat → Nat} {cd : Nat} (u k : Nat) {p2 : Int32} (hu : u < 3) (hk : k < 6) (hn : n = 40) : cs_MR l yX0_write (ws_ yX0_write cX0_write 5 (some .int)) ({ frames := 3, cells := 0, slots := 0, locals := 71 }) D vwCl (cs_wX ad cI cJ n ky vl sp dp cm sh lk bs pl ss st ch cd) (cs_tX cI cJ) [.ref (ad 0), .int (nI u), .int (nI k), .int p2] (-3) := by
  intro sz
  refine Met.ofW (cc := cX0_write) (maxL := 5) (ret := (some .int)) (by decide) rfl ?_
  intro p e s m args below meth c s₁ B hml hv9
  obtain ⟨rfl, hsz, hP, hK⟩ := hv9
  have hx := B.exec
  have hb := B.bytes
  have hr := B.returns
  have hts := atoms_spec (ws := (ws_ yX0_write cX0_write 5 (some .int))) B.pre
  have hts : ∀ w ∈ lw_all, w.before _ s = true := fun w h => hts w (List.mem_cons_of_mem _ h)
  have hown : s.vm.findClass RX0 = some m.cls := findClass_of_methodNamed B.named
  have hlocks := B.notSynchronized
  subst hsz
  generalize hAe : va_A [] s.heap.size = A
  have hA : ∀ q : Nat, s.heap.size ≤ q → A q := fun q h => by rw [← hAe]; exact Or.inr h
  have hS : va_S A s.heap s.heap [] := va_S.rf
  have hP : va_P D vwCl (cs_wX ad cI cJ n ky vl sp dp cm sh lk bs pl ss st ch cd) s.heap := hP
  have hl := lv_entry ([.ref (ad 0), .int (nI u), .int (nI k), .int p2]) (n := 5) (Nat.le_of_ble_eq_true rfl)
  rw [lg_entry_eq]
  generalize (lg_sl ([.ref (ad 0), .int (nI u), .int (nI k), .int p2]) ++ List.replicate (5 - (lg_sl ([.ref (ad 0), .int (nI u), .int (nI k), .int p2])).length) Slot.unset).toArray = ls at hl ⊢
  have hl : lv_has ls 5 [(0, .ref (ad 0)), (1, .int (nI u)), (2, .int (nI k)), (3, .int p2)] := hl
  refine lv_iload_n hx hb dX0_write_0 rfl (lv_at hl 1 rfl) ?_
  refine cs_callRS (As := [.int (nI u)]) (rest := []) ⟨hx, hb, hml, hown, hts⟩ (cs_badClient_k l D hu) (va_cwS 1 hts (lw_S q71 q72 q12 q73) rfl rfl rfl (by decide +kernel) ⟨Nat.le_of_ble_eq_true rfl, Nat.le_of_ble_eq_true rfl⟩) cs_P0 hK hP hS hA rfl hl.1 rfl (Nat.le_of_ble_eq_true rfl) dX0_write_1 ⟨Nat.zero_le _, Nat.zero_le _⟩ (fun H locs hP hS => ?_)
  refine cs_zeq (tgt := 9) hx hb dX0_write_4 (by decide) (fun h9 => ?_) (fun h9 => absurd h9 (by decide))
  refine lv_iload_n hx hb dX0_write_9 rfl (lv_at hl 2 rfl) ?_
  refine lv_if_lt (tgt := 19) hx hb dX0_write_10 (by decide) (fun h9 => absurd h9 (nI_pos (by omega))) (fun h9 => ?_)
  refine lv_iload_n hx hb dX0_write_13 rfl (lv_at hl 2 rfl) ?_
  refine lv_bipush (v := nI 6) hx hb dX0_write_14 (by decide) ?_
  refine cs_jlt (tgt := 22) hx hb dX0_write_16 (by decide) (by omega) (by omega) (fun h8 => ?_) (fun h8 => absurd h8 (by omega))
  refine lv_aload_n hx hb dX0_write_22 rfl (lv_at hl 0 rfl) ?_
  refine va_get (D := D) (ci := 0) (v := .int (nI n)) (C := RX0) (T := TX0) (N := 14) hx hb hts in_X0 hown hK hP 0 rfl rfl 0 (by decide) (hts _ q22) (fun _ h9 => h9) rfl dX0_write_23 ?_
  refine lv_bipush (v := nI 40) hx hb dX0_write_26 (by decide) ?_
  refine cs_jlt (tgt := 34) hx hb dX0_write_28 (by decide) (by omega) (by omega) (fun h7 => absurd h7 (by omega)) (fun h7 => ?_)
  refine lv_bipush (v := -3) hx hb dX0_write_31 (by decide) ?_
  exact W.iret (v := (-3)) hx hb hr (fun t ht hW => ⟨⟨(-3), (), rfl, rfl, trivial⟩, hS.F ht⟩) hS.2.2 dX0_write_33

set_option maxHeartbeats 4000000 in
set_option maxRecDepth 100000 in
theorem cs_write_4 (l : Launch) (D : va_G) {ad : Nat → Nat} {cI cJ : ClassId} {n : Nat} {ky : Nat → Nat} {vl : Nat → Int32} {sp : Nat → Int32} {dp : Nat → Int64} {cm : Nat → Int64} {sh : Nat → Int64} {lk : Nat → Int32} {bs : Nat → Option Nat} {pl : Nat → Nat} {ss : Nat → Int64} {st : Nat → Int32} {ch : Nat → Nat} {cd : Nat} (u k : Nat) {p2 : Int32} (hu : u < 3) (hk : k < 6) (hn : n < 40) (hpl : pl u < 3) (postA post : Int32 → va_W → Prop) (hM : cs_MW l yX0_arrive (ws_ yX0_arrive cX0_arrive 4 (some .int)) ({ frames := 2, cells := 0, slots := 0, locals := 48 }) D vwCl (cs_wX ad cI cJ ((n + 1)) ((va_up ky n k)) ((va_up vl n p2)) ((va_up sp n (st u + 1))) ((va_up dp n (ss u))) cm sh lk bs pl ss st ch cd) (cs_tX cI cJ) [.ref (ad 0), .int (nI (pl u)), .int (nI n)] postA) (hQ : ∀ r w', postA r w' → ∃ (cm1 sh1 : Nat → Int64) (lk1 : Nat → Int32) (bs1 : Nat → Option Nat) (ch1 : Nat → Nat) (cd1 : Nat), w' = cs_wX ad cI cJ ((n + 1)) ((va_up ky n k)) ((va_up vl n p2)) ((va_up sp n (st u + 1))) ((va_up dp n (ss u))) cm1 sh1 lk1 bs1 pl ss st ch1 cd1 ∧ post (nI n) (cs_wX ad cI cJ ((n + 1)) ((va_up ky n k)) ((va_up vl n p2)) ((va_up sp n (st u + 1))) ((va_up dp n (ss u))) cm1 sh1 lk1 bs1 pl ((va_up ss u (ss u ||| cs_l n))) ((cs_su st u ((va_up sp n (st u + 1)) n))) ch1 cd1)) : cs_MW l yX0_write (ws_ yX0_write cX0_write 5 (some .int)) ({ frames := 3, cells := 0, slots := 0, locals := 71 }) D vwCl (cs_wX ad cI cJ n ky vl sp dp cm sh lk bs pl ss st ch cd) (cs_tX cI cJ) [.ref (ad 0), .int (nI u), .int (nI k), .int p2] post := by
  intro sz
  refine Met.ofW (cc := cX0_write) (maxL := 5) (ret := (some .int)) (by decide) rfl ?_
  intro p e s m args below meth c s₁ B hml hv9
  obtain ⟨rfl, hsz, hP, hK, hD0⟩ := hv9
  have hx := B.exec
  have hb := B.bytes
  have hr := B.returns
  have hts := atoms_spec (ws := (ws_ yX0_write cX0_write 5 (some .int))) B.pre
  have hts : ∀ w ∈ lw_all, w.before _ s = true := fun w h => hts w (List.mem_cons_of_mem _ h)
  have hown : s.vm.findClass RX0 = some m.cls := findClass_of_methodNamed B.named
  have hlocks := B.notSynchronized
  subst hsz
  have hD := hD0.self (sz := s.heap.size)
  generalize hAe : va_A (cs_wX ad cI cJ n ky vl sp dp cm sh lk bs pl ss st ch cd) s.heap.size = A at hD ⊢
  have hA : ∀ q : Nat, s.heap.size ≤ q → A q := fun q h => by rw [← hAe]; exact Or.inr h
  have hS : va_S A s.heap s.heap [] := va_S.rf
  have hP : va_P D vwCl (cs_wX ad cI cJ n ky vl sp dp cm sh lk bs pl ss st ch cd) s.heap := hP
  have hl := lv_entry ([.ref (ad 0), .int (nI u), .int (nI k), .int p2]) (n := 5) (Nat.le_of_ble_eq_true rfl)
  rw [lg_entry_eq]
  generalize (lg_sl ([.ref (ad 0), .int (nI u), .int (nI k), .int p2]) ++ List.replicate (5 - (lg_sl ([.ref (ad 0), .int (nI u), .int (nI k), .int p2])).length) Slot.unset).toArray = ls at hl ⊢
  have hl : lv_has ls 5 [(0, .ref (ad 0)), (1, .int (nI u)), (2, .int (nI k)), (3, .int p2)] := hl
  refine lv_iload_n hx hb dX0_write_0 rfl (lv_at hl 1 rfl) ?_
  refine cs_callRS (As := [.int (nI u)]) (rest := []) ⟨hx, hb, hml, hown, hts⟩ (cs_badClient_k l D hu) (va_cwS 1 hts (lw_S q71 q72 q12 q73) rfl rfl rfl (by decide +kernel) ⟨Nat.le_of_ble_eq_true rfl, Nat.le_of_ble_eq_true rfl⟩) cs_P0 hK hP hS hA rfl hl.1 rfl (Nat.le_of_ble_eq_true rfl) dX0_write_1 ⟨Nat.zero_le _, Nat.zero_le _⟩ (fun H locs hP hS => ?_)
  refine cs_zeq (tgt := 9) hx hb dX0_write_4 (by decide) (fun h9 => ?_) (fun h9 => absurd h9 (by decide))
  refine lv_iload_n hx hb dX0_write_9 rfl (lv_at hl 2 rfl) ?_
  refine lv_if_lt (tgt := 19) hx hb dX0_write_10 (by decide) (fun h9 => absurd h9 (nI_pos (by omega))) (fun h9 => ?_)
  refine lv_iload_n hx hb dX0_write_13 rfl (lv_at hl 2 rfl) ?_
  refine lv_bipush (v := nI 6) hx hb dX0_write_14 (by decide) ?_
  refine cs_jlt (tgt := 22) hx hb dX0_write_16 (by decide) (by omega) (by omega) (fun h8 => ?_) (fun h8 => absurd h8 (by omega))
  refine lv_aload_n hx hb dX0_write_22 rfl (lv_at hl 0 rfl) ?_
  refine va_get (D := D) (ci := 0) (v := .int (nI n)) (C := RX0) (T := TX0) (N := 14) hx hb hts in_X0 hown hK hP 0 rfl rfl 0 (by decide) (hts _ q22) (fun _ h9 => h9) rfl dX0_write_23 ?_
  refine lv_bipush (v := nI 40) hx hb dX0_write_26 (by decide) ?_
  refine cs_jlt (tgt := 34) hx hb dX0_write_28 (by decide) (by omega) (by omega) (fun h7 => ?_) (fun h7 => absurd h7 (by omega))
  refine lv_aload_n hx hb dX0_write_34 rfl (lv_at hl 0 rfl) ?_
  refine va_get (D := D) (ci := 0) (v := .int (nI n)) (C := RX0) (T := TX0) (N := 14) hx hb hts in_X0 hown hK hP 0 rfl rfl 0 (by decide) (hts _ q22) (fun _ h9 => h9) rfl dX0_write_35 ?_
  refine lv_istore (lv' := [(4, .int (nI n)), (0, .ref (ad 0)), (1, .int (nI u)), (2, .int (nI k)), (3, .int p2)]) hx hb dX0_write_38 hl (by decide) rfl (fun ls hl => ?_)
  refine lv_aload_n hx hb dX0_write_40 rfl (lv_at hl 1 rfl) ?_
  refine va_get (D := D) (ci := 0) (v := .ref (ad 1)) (C := RX0) (T := TX0) (N := 14) hx hb hts in_X0 hown hK hP 0 rfl rfl 1 (by decide) (hts _ q23) (fun _ h9 => h9) rfl dX0_write_41 ?_
  refine lv_iload hx hb dX0_write_44 (lv_at hl 0 rfl) ?_
  refine lv_iload_n hx hb dX0_write_46 rfl (lv_at hl 3 rfl) ?_
  refine cs_iastN (f := ky) (k := n) (x := k) hx hb hK hP hD hS 1 0 rfl rfl (by omega) (by decide) dX0_write_47 (fun H locs hP hD hS => ?_)
  have hP : va_P D vwCl (cs_wX ad cI cJ n (va_up ky n k) vl sp dp cm sh lk bs pl ss st ch cd) H := hP
  have hD : va_D A (cs_wX ad cI cJ n (va_up ky n k) vl sp dp cm sh lk bs pl ss st ch cd) := hD
  refine lv_aload_n hx hb dX0_write_48 rfl (lv_at hl 1 rfl) ?_
  refine va_get (D := D) (ci := 0) (v := .ref (ad 2)) (C := RX0) (T := TX0) (N := 14) hx hb hts in_X0 hown hK hP 0 rfl rfl 2 (by decide) (hts _ q24) (fun _ h9 => h9) rfl dX0_write_49 ?_
  refine lv_iload hx hb dX0_write_52 (lv_at hl 0 rfl) ?_
  refine lv_iload_n hx hb dX0_write_54 rfl (lv_at hl 4 rfl) ?_
  refine cs_iast (f := vl) (k := n) (x := p2) hx hb hK hP hD hS 2 0 rfl rfl (by omega) (by decide) dX0_write_55 (fun H locs hP hD hS => ?_)
  have hP : va_P D vwCl (cs_wX ad cI cJ n (va_up ky n k) (va_up vl n p2) sp dp cm sh lk bs pl ss st ch cd) H := hP
  have hD : va_D A (cs_wX ad cI cJ n (va_up ky n k) (va_up vl n p2) sp dp cm sh lk bs pl ss st ch cd) := hD
  refine lv_aload_n hx hb dX0_write_56 rfl (lv_at hl 1 rfl) ?_
  refine va_get (D := D) (ci := 0) (v := .ref (ad 3)) (C := RX0) (T := TX0) (N := 14) hx hb hts in_X0 hown hK hP 0 rfl rfl 3 (by decide) (hts _ q25) (fun _ h9 => h9) rfl dX0_write_57 ?_
  refine lv_iload hx hb dX0_write_60 (lv_at hl 0 rfl) ?_
  refine lv_aload_n hx hb dX0_write_62 rfl (lv_at hl 1 rfl) ?_
  refine va_get (D := D) (ci := 0) (v := .ref (ad 11)) (C := RX0) (T := TX0) (N := 14) hx hb hts in_X0 hown hK hP 0 rfl rfl 11 (by decide) (hts _ q33) (fun _ h9 => h9) rfl dX0_write_63 ?_
  refine lv_iload_n hx hb dX0_write_66 rfl (lv_at hl 2 rfl) ?_
  refine cs_iald hx hb hK hP 11 0 rfl rfl (k := u) (by omega) (by decide) dX0_write_67 ?_
  refine lv_iconst (v := 1) hx hb dX0_write_68 (by decide) ?_
  refine lv_iadd hx hb dX0_write_69 ?_
  refine cs_iast (f := sp) (k := n) (x := (((st u)) + ((1)))) hx hb hK hP hD hS 3 0 rfl rfl (by omega) (by decide) dX0_write_70 (fun H locs hP hD hS => ?_)
  have hP : va_P D vwCl (cs_wX ad cI cJ n (va_up ky n k) (va_up vl n p2) (va_up sp n ((((st u)) + ((1))))) dp cm sh lk bs pl ss st ch cd) H := hP
  have hD : va_D A (cs_wX ad cI cJ n (va_up ky n k) (va_up vl n p2) (va_up sp n ((((st u)) + ((1))))) dp cm sh lk bs pl ss st ch cd) := hD
  refine lv_aload_n hx hb dX0_write_71 rfl (lv_at hl 1 rfl) ?_
  refine va_get (D := D) (ci := 0) (v := .ref (ad 4)) (C := RX0) (T := TX0) (N := 14) hx hb hts in_X0 hown hK hP 0 rfl rfl 4 (by decide) (hts _ q26) (fun _ h9 => h9) rfl dX0_write_72 ?_
  refine lv_iload hx hb dX0_write_75 (lv_at hl 0 rfl) ?_
  refine lv_aload_n hx hb dX0_write_77 rfl (lv_at hl 1 rfl) ?_
  refine va_get (D := D) (ci := 0) (v := .ref (ad 10)) (C := RX0) (T := TX0) (N := 14) hx hb hts in_X0 hown hK hP 0 rfl rfl 10 (by decide) (hts _ q32) (fun _ h9 => h9) rfl dX0_write_78 ?_
  refine lv_iload_n hx hb dX0_write_81 rfl (lv_at hl 2 rfl) ?_
  refine cs_lald hx hb hK hP 10 1 rfl rfl (k := u) (by omega) (by decide) dX0_write_82 ?_
  refine cs_last (f := dp) (k := n) (x := (ss u)) hx hb hK hP hD hS 4 1 rfl rfl (by omega) (by decide) dX0_write_83 (fun H locs hP hD hS => ?_)
  have hP : va_P D vwCl (cs_wX ad cI cJ n (va_up ky n k) (va_up vl n p2) (va_up sp n ((((st u)) + ((1))))) (va_up dp n ((ss u))) cm sh lk bs pl ss st ch cd) H := hP
  have hD : va_D A (cs_wX ad cI cJ n (va_up ky n k) (va_up vl n p2) (va_up sp n ((((st u)) + ((1))))) (va_up dp n ((ss u))) cm sh lk bs pl ss st ch cd) := hD
  refine lv_aload_n hx hb dX0_write_84 rfl (lv_at hl 1 rfl) ?_
  refine lv_dup hx hb dX0_write_85 rfl ?_
  refine va_get (D := D) (ci := 0) (v := .int (nI n)) (C := RX0) (T := TX0) (N := 14) hx hb hts in_X0 hown hK hP 0 rfl rfl 0 (by decide) (hts _ q22) (fun _ h9 => h9) rfl dX0_write_86 ?_
  refine lv_iconst (v := nI 1) hx hb dX0_write_89 (by decide) ?_
  refine cs_iadd hx hb dX0_write_90 ?_
  refine va_put (D := D) (ci := 0) (v := .int (nI (n + 1))) (ty := .int) (C := RX0) (T := TX0) (N := 14) hx hb hts in_X0 tyX0 tyX0_ok nmX0 hown hK hP hD hS 0 rfl rfl 0 (by decide) (hts _ q22) (fun _ h9 => h9) rfl (by decide +kernel) rfl rfl (Nat.le_of_ble_eq_true rfl) dX0_write_91 (fun H locs hP hD hS => ?_)
  have hP : va_P D vwCl (cs_wX ad cI cJ (n + 1) (va_up ky n k) (va_up vl n p2) (va_up sp n ((((st u)) + ((1))))) (va_up dp n ((ss u))) cm sh lk bs pl ss st ch cd) H := hP
  have hD : va_D A (cs_wX ad cI cJ (n + 1) (va_up ky n k) (va_up vl n p2) (va_up sp n ((((st u)) + ((1))))) (va_up dp n ((ss u))) cm sh lk bs pl ss st ch cd) := hD
  refine lv_aload_n hx hb dX0_write_94 rfl (lv_at hl 1 rfl) ?_
  refine lv_aload_n hx hb dX0_write_95 rfl (lv_at hl 1 rfl) ?_
  refine va_get (D := D) (ci := 0) (v := .ref (ad 9)) (C := RX0) (T := TX0) (N := 14) hx hb hts in_X0 hown hK hP 0 rfl rfl 9 (by decide) (hts _ q31) (fun _ h9 => h9) rfl dX0_write_96 ?_
  refine lv_iload_n hx hb dX0_write_99 rfl (lv_at hl 2 rfl) ?_
  refine cs_iald hx hb hK hP 9 0 rfl rfl (k := u) (by omega) (by decide) dX0_write_100 ?_
  refine lv_iload hx hb dX0_write_101 (lv_at hl 0 rfl) ?_
  have hP : va_P D vwCl (cs_wX ad cI cJ ((n + 1)) ((va_up ky n k)) ((va_up vl n p2)) ((va_up sp n (st u + 1))) ((va_up dp n (ss u))) cm sh lk bs pl ss st ch cd) H := hP
  have hD : va_D A (cs_wX ad cI cJ ((n + 1)) ((va_up ky n k)) ((va_up vl n p2)) ((va_up sp n (st u + 1))) ((va_up dp n (ss u))) cm sh lk bs pl ss st ch cd) := hD
  refine cs_callWV (C := RX0) (As := [.int (nI (pl u)), .int (nI n)]) (rest := []) ⟨hx, hb, hml, hown, hts⟩ hM (cwV 2 hts (lw_V q74 q76 qs0 q12 q77) rfl rfl rfl (by decide +kernel) ⟨Nat.le_of_ble_eq_true rfl, Nat.le_of_ble_eq_true rfl⟩) (va_recv hK hP (ci := 0) (q0 := 0) rfl rfl) hK hP hD hS hA rfl hl.1 rfl (Nat.le_of_ble_eq_true rfl) dX0_write_103 ⟨Nat.zero_le _, Nat.zero_le _⟩ (fun r w' H locs hq hP hD hS => ?_)
  obtain ⟨cm1, sh1, lk1, bs1, ch1, cd1, rfl, hpost⟩ := hQ r w' hq
  refine lv_pop hx hb dX0_write_106 rfl ?_
  refine lv_aload_n hx hb dX0_write_107 rfl (lv_at hl 1 rfl) ?_
  refine lv_iload_n hx hb dX0_write_108 rfl (lv_at hl 2 rfl) ?_
  refine lv_iload hx hb dX0_write_109 (lv_at hl 0 rfl) ?_
  refine cs_callVV (C := RX0) (As := [.int (nI u), .int (nI n)]) (rest := []) ⟨hx, hb, hml, hown, hts⟩ (cs_see l D u n hu (by omega)) (cwV 2 hts (lw_V q97 q99 qs4 q12 q100) rfl rfl rfl (by decide +kernel) ⟨Nat.le_of_ble_eq_true rfl, Nat.le_of_ble_eq_true rfl⟩) (va_recv hK hP (ci := 0) (q0 := 0) rfl rfl) hK hP hD hS hA rfl hl.1 rfl (Nat.le_of_ble_eq_true rfl) dX0_write_111 ⟨Nat.zero_le _, Nat.zero_le _⟩ (fun w' H locs hq hP hD hS => ?_)
  subst hq
  refine lv_iload hx hb dX0_write_114 (lv_at hl 0 rfl) ?_
  exact W.iret (v := (nI n)) hx hb hr (fun t ht hW => ⟨⟨(nI n), cs_wX ad cI cJ ((n + 1)) ((va_up ky n k)) ((va_up vl n p2)) ((va_up sp n (st u + 1))) ((va_up dp n (ss u))) cm1 sh1 lk1 bs1 pl ((va_up ss u (ss u ||| cs_l n))) ((cs_su st u ((va_up sp n (st u + 1)) n))) ch1 cd1, rfl, hpost, by rw [ht]; exact hP, hD⟩, hS.F ht⟩) hS.2.2 dX0_write_116
end
section
set_option maxHeartbeats 4000000 in
set_option maxRecDepth 100000 in
theorem cs_three (l : Launch) (D : va_G) {tys : List (ClassId × FieldType)} (b : Nat) (p0 : Int32) : cs_MR l yX1_three (ws_ yX1_three cX1_three 2 (some .boolean)) ({ frames := 0, cells := 0, slots := 0, locals := 0 }) D vwCl [] tys [.ref b, .int p0] (cs_b (!cs_bad p0)) := by
  intro sz
  refine Met.ofW (cc := cX1_three) (maxL := 2) (ret := (some .boolean)) (by decide) rfl ?_
  intro p e s m args below meth c s₁ B hml hv9
  obtain ⟨rfl, hsz, hP, hK⟩ := hv9
  have hx := B.exec
  have hb := B.bytes
  have hr := B.returns
  have hts := atoms_spec (ws := (ws_ yX1_three cX1_three 2 (some .boolean))) B.pre
  have hts : ∀ w ∈ lw_all, w.before _ s = true := fun w h => hts w (List.mem_cons_of_mem _ h)
  have hown : s.vm.findClass RX1 = some m.cls := findClass_of_methodNamed B.named
  have hlocks := B.notSynchronized
  subst hsz
  generalize hAe : va_A [] s.heap.size = A
  have hA : ∀ q : Nat, s.heap.size ≤ q → A q := fun q h => by rw [← hAe]; exact Or.inr h
  have hS : va_S A s.heap s.heap [] := va_S.rf
  have hl := lv_entry ([.ref b, .int p0]) (n := 2) (Nat.le_of_ble_eq_true rfl)
  rw [lg_entry_eq]
  generalize (lg_sl ([.ref b, .int p0]) ++ List.replicate (2 - (lg_sl ([.ref b, .int p0])).length) Slot.unset).toArray = ls at hl ⊢
  have hl : lv_has ls 2 [(0, .ref b), (1, .int p0)] := hl
  refine lv_iload_n hx hb dX1_three_0 rfl (lv_at hl 1 rfl) ?_
  refine lv_if_lt (tgt := 13) hx hb dX1_three_1 (by decide) (fun h => ?_) (fun h => ?_)
  · refine lv_iconst (v := cs_b false) hx hb dX1_three_13 (by decide) ?_
    exact W.zret (v := (cs_b false)) hx hb hr (cs_nz _) (fun t ht hW => ⟨⟨(cs_b false), (), rfl, by rw [cs_bad_t (Or.inl h)]; rfl, trivial⟩, hS.F ht⟩) hS.2.2 dX1_three_14
  · refine lv_iload_n hx hb dX1_three_4 rfl (lv_at hl 1 rfl) ?_
    refine lv_iconst (v := 3) hx hb dX1_three_5 (by decide) ?_
    refine lv_icmp_ge (tgt := 13) hx hb dX1_three_6 (by decide) (fun h2 => ?_) (fun h2 => ?_)
    · refine lv_iconst (v := cs_b false) hx hb dX1_three_13 (by decide) ?_
      exact W.zret (v := (cs_b false)) hx hb hr (cs_nz _) (fun t ht hW => ⟨⟨(cs_b false), (), rfl, by rw [cs_bad_t (Or.inr (cs_nle.mpr h2))]; rfl, trivial⟩, hS.F ht⟩) hS.2.2 dX1_three_14
    · refine lv_iconst (v := cs_b true) hx hb dX1_three_9 (by decide) ?_
      refine lv_goto (tgt := 14) hx hb dX1_three_10 (by decide) ?_
      exact W.zret (v := (cs_b true)) hx hb hr (cs_nz _) (fun t ht hW => ⟨⟨(cs_b true), (), rfl, by rw [cs_bad_f h (cs_nlt.mp h2)]; rfl, trivial⟩, hS.F ht⟩) hS.2.2 dX1_three_14

set_option maxHeartbeats 4000000 in
set_option maxRecDepth 100000 in
theorem cs_isKey (l : Launch) (D : va_G) {tys : List (ClassId × FieldType)} (b : Nat) (p0 : Int32) : cs_MR l yX1_isKey (ws_ yX1_isKey cX1_isKey 2 (some .boolean)) ({ frames := 0, cells := 0, slots := 0, locals := 0 }) D vwCl [] tys [.ref b, .int p0] (cs_b (!cs_nk p0)) := by
  intro sz
  refine Met.ofW (cc := cX1_isKey) (maxL := 2) (ret := (some .boolean)) (by decide) rfl ?_
  intro p e s m args below meth c s₁ B hml hv9
  obtain ⟨rfl, hsz, hP, hK⟩ := hv9
  have hx := B.exec
  have hb := B.bytes
  have hr := B.returns
  have hts := atoms_spec (ws := (ws_ yX1_isKey cX1_isKey 2 (some .boolean))) B.pre
  have hts : ∀ w ∈ lw_all, w.before _ s = true := fun w h => hts w (List.mem_cons_of_mem _ h)
  have hown : s.vm.findClass RX1 = some m.cls := findClass_of_methodNamed B.named
  have hlocks := B.notSynchronized
  subst hsz
  generalize hAe : va_A [] s.heap.size = A
  have hA : ∀ q : Nat, s.heap.size ≤ q → A q := fun q h => by rw [← hAe]; exact Or.inr h
  have hS : va_S A s.heap s.heap [] := va_S.rf
  have hl := lv_entry ([.ref b, .int p0]) (n := 2) (Nat.le_of_ble_eq_true rfl)
  rw [lg_entry_eq]
  generalize (lg_sl ([.ref b, .int p0]) ++ List.replicate (2 - (lg_sl ([.ref b, .int p0])).length) Slot.unset).toArray = ls at hl ⊢
  have hl : lv_has ls 2 [(0, .ref b), (1, .int p0)] := hl
  refine lv_iload_n hx hb dX1_isKey_0 rfl (lv_at hl 1 rfl) ?_
  refine lv_if_lt (tgt := 14) hx hb dX1_isKey_1 (by decide) (fun h => ?_) (fun h => ?_)
  · refine lv_iconst (v := cs_b false) hx hb dX1_isKey_14 (by decide) ?_
    exact W.zret (v := (cs_b false)) hx hb hr (cs_nz _) (fun t ht hW => ⟨⟨(cs_b false), (), rfl, by rw [cs_nk_t (Or.inl h)]; rfl, trivial⟩, hS.F ht⟩) hS.2.2 dX1_isKey_15
  · refine lv_iload_n hx hb dX1_isKey_4 rfl (lv_at hl 1 rfl) ?_
    refine lv_bipush (v := 6) hx hb dX1_isKey_5 (by decide) ?_
    refine lv_icmp_ge (tgt := 14) hx hb dX1_isKey_7 (by decide) (fun h2 => ?_) (fun h2 => ?_)
    · refine lv_iconst (v := cs_b false) hx hb dX1_isKey_14 (by decide) ?_
      exact W.zret (v := (cs_b false)) hx hb hr (cs_nz _) (fun t ht hW => ⟨⟨(cs_b false), (), rfl, by rw [cs_nk_t (Or.inr (cs_nle.mpr h2))]; rfl, trivial⟩, hS.F ht⟩) hS.2.2 dX1_isKey_15
    · refine lv_iconst (v := cs_b true) hx hb dX1_isKey_10 (by decide) ?_
      refine lv_goto (tgt := 15) hx hb dX1_isKey_11 (by decide) ?_
      exact W.zret (v := (cs_b true)) hx hb hr (cs_nz _) (fun t ht hW => ⟨⟨(cs_b true), (), rfl, by rw [cs_nk_f h (cs_nlt.mp h2)]; rfl, trivial⟩, hS.F ht⟩) hS.2.2 dX1_isKey_15

set_option maxHeartbeats 4000000 in
set_option maxRecDepth 100000 in
theorem cs_isVersion (l : Launch) (D : va_G) {ad : Nat → Nat} {cI cZ : ClassId} {n : Nat} {ky : Nat → Nat} {vl : Nat → Int32} {sp : Nat → Int32} {nd : Nat → Bool} {cm : Nat → Bool} {hs : Nat → Bool} {pl : Nat → Nat} {sh : Nat → Bool} (p0 : Int32) : cs_MR l yX1_isVersion (ws_ yX1_isVersion cX1_isVersion 2 (some .boolean)) ({ frames := 0, cells := 0, slots := 0, locals := 0 }) D vwCl (cs_wM ad cI cZ n ky vl sp nd cm hs pl sh) (cs_tM cI cZ) [.ref (ad 0), .int p0] (cs_b (!cs_nv n p0)) := by
  intro sz
  refine Met.ofW (cc := cX1_isVersion) (maxL := 2) (ret := (some .boolean)) (by decide) rfl ?_
  intro p e s m args below meth c s₁ B hml hv9
  obtain ⟨rfl, hsz, hP, hK⟩ := hv9
  have hx := B.exec
  have hb := B.bytes
  have hr := B.returns
  have hts := atoms_spec (ws := (ws_ yX1_isVersion cX1_isVersion 2 (some .boolean))) B.pre
  have hts : ∀ w ∈ lw_all, w.before _ s = true := fun w h => hts w (List.mem_cons_of_mem _ h)
  have hown : s.vm.findClass RX1 = some m.cls := findClass_of_methodNamed B.named
  have hlocks := B.notSynchronized
  subst hsz
  generalize hAe : va_A [] s.heap.size = A
  have hA : ∀ q : Nat, s.heap.size ≤ q → A q := fun q h => by rw [← hAe]; exact Or.inr h
  have hS : va_S A s.heap s.heap [] := va_S.rf
  have hP : va_P D vwCl (cs_wM ad cI cZ n ky vl sp nd cm hs pl sh) s.heap := hP
  have hl := lv_entry ([.ref (ad 0), .int p0]) (n := 2) (Nat.le_of_ble_eq_true rfl)
  rw [lg_entry_eq]
  generalize (lg_sl ([.ref (ad 0), .int p0]) ++ List.replicate (2 - (lg_sl ([.ref (ad 0), .int p0])).length) Slot.unset).toArray = ls at hl ⊢
  have hl : lv_has ls 2 [(0, .ref (ad 0)), (1, .int p0)] := hl
  refine lv_iload_n hx hb dX1_isVersion_0 rfl (lv_at hl 1 rfl) ?_
  refine lv_if_lt (tgt := 16) hx hb dX1_isVersion_1 (by decide) (fun h => ?_) (fun h => ?_)
  · refine lv_iconst (v := cs_b false) hx hb dX1_isVersion_16 (by decide) ?_
    exact W.zret (v := (cs_b false)) hx hb hr (cs_nz _) (fun t ht hW => ⟨⟨(cs_b false), (), rfl, by rw [cs_nv_t (Or.inl h)]; rfl, trivial⟩, hS.F ht⟩) hS.2.2 dX1_isVersion_17
  · refine lv_iload_n hx hb dX1_isVersion_4 rfl (lv_at hl 1 rfl) ?_
    refine lv_aload_n hx hb dX1_isVersion_5 rfl (lv_at hl 0 rfl) ?_
    refine va_get (D := D) (ci := 1) (v := .int (nI n)) (C := RX1) (T := TX1) (N := 9) hx hb hts in_X1 hown hK hP 0 rfl rfl 0 (by decide) (hts _ q162) (fun _ h9 => h9) rfl dX1_isVersion_6 ?_
    refine lv_icmp_ge (tgt := 16) hx hb dX1_isVersion_9 (by decide) (fun h2 => ?_) (fun h2 => ?_)
    · refine lv_iconst (v := cs_b false) hx hb dX1_isVersion_16 (by decide) ?_
      exact W.zret (v := (cs_b false)) hx hb hr (cs_nz _) (fun t ht hW => ⟨⟨(cs_b false), (), rfl, by rw [cs_nv_t (Or.inr (cs_nle.mpr h2))]; rfl, trivial⟩, hS.F ht⟩) hS.2.2 dX1_isVersion_17
    · refine lv_iconst (v := cs_b true) hx hb dX1_isVersion_12 (by decide) ?_
      refine lv_goto (tgt := 17) hx hb dX1_isVersion_13 (by decide) ?_
      exact W.zret (v := (cs_b true)) hx hb hr (cs_nz _) (fun t ht hW => ⟨⟨(cs_b true), (), rfl, by rw [cs_nv_f h (cs_nlt.mp h2)]; rfl, trivial⟩, hS.F ht⟩) hS.2.2 dX1_isVersion_17

theorem cs_three_t (l : Launch) (D : va_G) {tys : List (ClassId × FieldType)} {b : Nat} {p0 : Int32} (h : cs_bad p0 = true) : cs_MR l yX1_three (ws_ yX1_three cX1_three 2 (some .boolean)) ({ frames := 0, cells := 0, slots := 0, locals := 0 }) D vwCl [] tys [.ref b, .int p0] (cs_b false) := by
  have h9 := cs_three l D (tys := tys) b p0
  rw [h] at h9
  exact h9

theorem cs_three_k (l : Launch) (D : va_G) {tys : List (ClassId × FieldType)} {b k : Nat} (h : k < 3) : cs_MR l yX1_three (ws_ yX1_three cX1_three 2 (some .boolean)) ({ frames := 0, cells := 0, slots := 0, locals := 0 }) D vwCl [] tys [.ref b, .int (nI k)] (cs_b true) := by
  have h9 := cs_three l D (tys := tys) b (nI k)
  rw [cs_bad_k k h] at h9
  exact h9

theorem cs_isKey_t (l : Launch) (D : va_G) {tys : List (ClassId × FieldType)} {b : Nat} {p0 : Int32} (h : cs_nk p0 = true) : cs_MR l yX1_isKey (ws_ yX1_isKey cX1_isKey 2 (some .boolean)) ({ frames := 0, cells := 0, slots := 0, locals := 0 }) D vwCl [] tys [.ref b, .int p0] (cs_b false) := by
  have h9 := cs_isKey l D (tys := tys) b p0
  rw [h] at h9
  exact h9

theorem cs_isKey_k (l : Launch) (D : va_G) {tys : List (ClassId × FieldType)} {b k : Nat} (h : k < 6) : cs_MR l yX1_isKey (ws_ yX1_isKey cX1_isKey 2 (some .boolean)) ({ frames := 0, cells := 0, slots := 0, locals := 0 }) D vwCl [] tys [.ref b, .int (nI k)] (cs_b true) := by
  have h9 := cs_isKey l D (tys := tys) b (nI k)
  rw [cs_nk_k k h] at h9
  exact h9

theorem cs_isVersion_t (l : Launch) (D : va_G) {ad : Nat → Nat} {cI cZ : ClassId} {n : Nat} {ky : Nat → Nat} {vl : Nat → Int32} {sp : Nat → Int32} {nd : Nat → Bool} {cm : Nat → Bool} {hs : Nat → Bool} {pl : Nat → Nat} {sh : Nat → Bool} {p0 : Int32} (h : cs_nv n p0 = true) : cs_MR l yX1_isVersion (ws_ yX1_isVersion cX1_isVersion 2 (some .boolean)) ({ frames := 0, cells := 0, slots := 0, locals := 0 }) D vwCl (cs_wM ad cI cZ n ky vl sp nd cm hs pl sh) (cs_tM cI cZ) [.ref (ad 0), .int p0] (cs_b false) := by
  have h9 := cs_isVersion l D (ad := ad) (cI := cI) (cZ := cZ) (n := n) (ky := ky) (vl := vl) (sp := sp) (nd := nd) (cm := cm) (hs := hs) (pl := pl) (sh := sh) p0
  rw [h] at h9
  exact h9

theorem cs_isVersion_k (l : Launch) (D : va_G) {ad : Nat → Nat} {cI cZ : ClassId} {n : Nat} {ky : Nat → Nat} {vl : Nat → Int32} {sp : Nat → Int32} {nd : Nat → Bool} {cm : Nat → Bool} {hs : Nat → Bool} {pl : Nat → Nat} {sh : Nat → Bool} {k : Nat} (h : k < n) (hn : n ≤ 40) : cs_MR l yX1_isVersion (ws_ yX1_isVersion cX1_isVersion 2 (some .boolean)) ({ frames := 0, cells := 0, slots := 0, locals := 0 }) D vwCl (cs_wM ad cI cZ n ky vl sp nd cm hs pl sh) (cs_tM cI cZ) [.ref (ad 0), .int (nI k)] (cs_b true) := by
  have h9 := cs_isVersion l D (ad := ad) (cI := cI) (cZ := cZ) (n := n) (ky := ky) (vl := vl) (sp := sp) (nd := nd) (cm := cm) (hs := hs) (pl := pl) (sh := sh) (nI k)
  rw [cs_nv_k h (by omega)] at h9
  exact h9

set_option maxHeartbeats 4000000 in
set_option maxRecDepth 100000 in
theorem cs_allNeeded_loop {p : Program} {l : Launch} {e : Env} {R : Room} {s : State} {m : MethodId} {args : Array Value} {below : List Frame} {meth : Method} {c : Code} {Q : State → Prop} {D : va_G} {A : Nat → Prop} {H0 : Heap} (hx : p.tables.exec = Jvm.exec) (hb : c.code = cX1_allNeeded) (hml : c.maxLocals = 3) (hown : s.vm.findClass RX1 = some m.cls) (hts : ∀ w ∈ lw_all, w.before args s = true) (hA : ∀ q : Nat, H0.size ≤ q → A q) (hR : 0 ≤ R.frames ∧ 0 ≤ R.locals) {ad : Nat → Nat} {cI cZ : ClassId} (hK : va_K D vwCl (cs_tM cI cZ) s) {n : Nat} {ky : Nat → Nat} {vl : Nat → Int32} {sp : Nat → Int32} {nd : Nat → Bool} {cm : Nat → Bool} {hs : Nat → Bool} {pl : Nat → Nat} {sh : Nat → Bool} {H : Heap} {locs : List Loc} (v : Nat) (hv : v < 40) (hn : n ≤ 40) (hP : va_P D vwCl (cs_wM ad cI cZ n ky vl sp nd cm hs pl sh) H) (hend : (∀ i, i < n → nd (v * 40 + i) = true → sh i = true) → ∀ ls : Array Slot, lv_has ls 3 [(0, .ref (ad 0)), (1, .int (nI v)), (2, .int (nI n))] → W p l e R s m args below meth c H locs 0 0 Q (F0 m 41 ls [])) (hret : (¬ ∀ i, i < n → nd (v * 40 + i) = true → sh i = true) → ∀ ls : Array Slot, W p l e R s m args below meth c H locs 0 0 Q (F0 m 33 ls [])) :
    ∀ (j i : Nat), i + j = n → (∀ a, a < i → nd (v * 40 + a) = true → sh a = true) → ∀ ls : Array Slot, lv_has ls 3 [(0, .ref (ad 0)), (1, .int (nI v)), (2, .int (nI i))] → W p l e R s m args below meth c H locs 0 0 Q (F0 m 2 ls []) := by
  intro j
  induction j with
  | zero =>
    intro i hi hall ls hl
    refine lv_iload_n hx hb dX1_allNeeded_2 rfl (lv_at hl 2 rfl) ?_
    refine lv_aload_n hx hb dX1_allNeeded_3 rfl (lv_at hl 0 rfl) ?_
    refine va_get (D := D) (ci := 1) (v := .int (nI n)) (C := RX1) (T := TX1) (N := 9) hx hb hts in_X1 hown hK hP 0 rfl rfl 0 (by decide) (hts _ q162) (fun _ h9 => h9) rfl dX1_allNeeded_4 ?_
    refine cs_jge (tgt := 41) hx hb dX1_allNeeded_7 (by decide) (by omega) (by omega) (fun h => ?_) (fun h => absurd h (by omega))
    have hi : i = n := by omega
    subst hi
    exact hend hall ls hl
  | succ j ih =>
    intro i hi hall ls hl
    refine lv_iload_n hx hb dX1_allNeeded_2 rfl (lv_at hl 2 rfl) ?_
    refine lv_aload_n hx hb dX1_allNeeded_3 rfl (lv_at hl 0 rfl) ?_
    refine va_get (D := D) (ci := 1) (v := .int (nI n)) (C := RX1) (T := TX1) (N := 9) hx hb hts in_X1 hown hK hP 0 rfl rfl 0 (by decide) (hts _ q162) (fun _ h9 => h9) rfl dX1_allNeeded_4 ?_
    refine cs_jge (tgt := 41) hx hb dX1_allNeeded_7 (by decide) (by omega) (by omega) (fun h => absurd h (by omega)) (fun h => ?_)
    refine lv_aload_n hx hb dX1_allNeeded_10 rfl (lv_at hl 0 rfl) ?_
    refine va_get (D := D) (ci := 1) (v := .ref (ad 4)) (C := RX1) (T := TX1) (N := 9) hx hb hts in_X1 hown hK hP 0 rfl rfl 4 (by decide) (hts _ q166) (fun _ h9 => h9) rfl dX1_allNeeded_11 ?_
    refine lv_iload_n hx hb dX1_allNeeded_14 rfl (lv_at hl 1 rfl) ?_
    refine lv_bipush (v := nI 40) hx hb dX1_allNeeded_15 (by decide) ?_
    refine cs_imul hx hb dX1_allNeeded_17 ?_
    refine lv_iload_n hx hb dX1_allNeeded_18 rfl (lv_at hl 2 rfl) ?_
    refine cs_iadd hx hb dX1_allNeeded_19 ?_
    refine cs_zald hx hb hK hP 4 1 rfl rfl (k := (v * 40) + i) (by omega) (by decide) dX1_allNeeded_20 ?_
    refine cs_zeq (tgt := 35) hx hb dX1_allNeeded_21 (by decide) (fun h1 => ?_) (fun h1 => ?_)
    · refine lv_iinc (v := nI (i + 1)) (lv' := [(2, .int (nI (i + 1))), (0, .ref (ad 0)), (1, .int (nI v))]) hx hb dX1_allNeeded_35 hl (k := 2) rfl (cs_inc _) (by decide) rfl (fun ls hl => ?_)
      refine lv_goto (tgt := 2) hx hb dX1_allNeeded_38 (by decide) ?_
      exact ih (i + 1) (by omega) (lt_s hall (fun q => absurd (h1.symm.trans q) (by decide))) ls (lv_sub hl [1, 2, 0] rfl)
    · refine lv_aload_n hx hb dX1_allNeeded_24 rfl (lv_at hl 0 rfl) ?_
      refine va_get (D := D) (ci := 1) (v := .ref (ad 8)) (C := RX1) (T := TX1) (N := 9) hx hb hts in_X1 hown hK hP 0 rfl rfl 8 (by decide) (hts _ q170) (fun _ h9 => h9) rfl dX1_allNeeded_25 ?_
      refine lv_iload_n hx hb dX1_allNeeded_28 rfl (lv_at hl 2 rfl) ?_
      refine cs_zald hx hb hK hP 8 1 rfl rfl (k := i) (by omega) (by decide) dX1_allNeeded_29 ?_
      refine cs_zne (tgt := 35) hx hb dX1_allNeeded_30 (by decide) (fun h2 => ?_) (fun h2 => ?_)
      · refine lv_iinc (v := nI (i + 1)) (lv' := [(2, .int (nI (i + 1))), (0, .ref (ad 0)), (1, .int (nI v))]) hx hb dX1_allNeeded_35 hl (k := 2) rfl (cs_inc _) (by decide) rfl (fun ls hl => ?_)
        refine lv_goto (tgt := 2) hx hb dX1_allNeeded_38 (by decide) ?_
        exact ih (i + 1) (by omega) (lt_s hall (fun _ => h2)) ls (lv_sub hl [1, 2, 0] rfl)
      · exact hret (fun q => absurd (h2.symm.trans (q i h h1)) (by decide)) ls

set_option maxHeartbeats 4000000 in
set_option maxRecDepth 100000 in
/-- allNeeded -/
theorem cs_allNeeded (l : Launch) (D : va_G) {ad : Nat → Nat} {cI cZ : ClassId} {n : Nat} {ky : Nat → Nat} {vl : Nat → Int32} {sp : Nat → Int32} {nd : Nat → Bool} {cm : Nat → Bool} {hs : Nat → Bool} {pl : Nat → Nat} {sh : Nat → Bool} (v : Nat) (hv : v < 40) (hn : n ≤ 40) (b : Bool) (hbb : b = true ↔ ∀ i, i < n → nd (v * 40 + i) = true → sh i = true) : cs_MR l yX1_allNeeded (ws_ yX1_allNeeded cX1_allNeeded 3 (some .boolean)) ({ frames := 0, cells := 0, slots := 0, locals := 0 }) D vwCl (cs_wM ad cI cZ n ky vl sp nd cm hs pl sh) (cs_tM cI cZ) [.ref (ad 0), .int (nI v)] (cs_b b) := by
  intro sz
  refine Met.ofW (cc := cX1_allNeeded) (maxL := 3) (ret := (some .boolean)) (by decide) rfl ?_
  intro p e s m args below meth c s₁ B hml hv9
  obtain ⟨rfl, hsz, hP, hK⟩ := hv9
  have hx := B.exec
  have hb := B.bytes
  have hr := B.returns
  have hts := atoms_spec (ws := (ws_ yX1_allNeeded cX1_allNeeded 3 (some .boolean))) B.pre
  have hts : ∀ w ∈ lw_all, w.before _ s = true := fun w h => hts w (List.mem_cons_of_mem _ h)
  have hown : s.vm.findClass RX1 = some m.cls := findClass_of_methodNamed B.named
  have hlocks := B.notSynchronized
  subst hsz
  generalize hAe : va_A [] s.heap.size = A
  have hA : ∀ q : Nat, s.heap.size ≤ q → A q := fun q h => by rw [← hAe]; exact Or.inr h
  have hS : va_S A s.heap s.heap [] := va_S.rf
  have hP : va_P D vwCl (cs_wM ad cI cZ n ky vl sp nd cm hs pl sh) s.heap := hP
  have hl := lv_entry ([.ref (ad 0), .int (nI v)]) (n := 3) (Nat.le_of_ble_eq_true rfl)
  rw [lg_entry_eq]
  generalize (lg_sl ([.ref (ad 0), .int (nI v)]) ++ List.replicate (3 - (lg_sl ([.ref (ad 0), .int (nI v)])).length) Slot.unset).toArray = ls at hl ⊢
  have hl : lv_has ls 3 [(0, .ref (ad 0)), (1, .int (nI v))] := hl
  refine lv_iconst (v := nI 0) hx hb dX1_allNeeded_0 (by decide) ?_
  refine lv_istore_n (lv' := [(2, .int (nI 0)), (0, .ref (ad 0)), (1, .int (nI v))]) hx hb dX1_allNeeded_1 rfl hl (by decide) rfl (fun ls hl => ?_)
  refine cs_allNeeded_loop hx hb hml hown hts hA ⟨Nat.zero_le _, Nat.zero_le _⟩ hK v hv hn hP (fun hq ls hl => ?_) (fun hq ls => ?_) n 0 (by omega) (fun a ha => absurd ha (by omega)) ls (lv_sub hl [1, 2, 0] rfl)
  · refine lv_iconst (v := cs_b true) hx hb dX1_allNeeded_41 (by decide) ?_
    exact W.zret (v := (cs_b true)) hx hb hr (cs_nz _) (fun t ht hW => ⟨⟨(cs_b true), (), rfl, by rw [hbb.mpr hq], trivial⟩, hS.F ht⟩) hS.2.2 dX1_allNeeded_42
  · refine lv_iconst (v := cs_b false) hx hb dX1_allNeeded_33 (by decide) ?_
    exact W.zret (v := (cs_b false)) hx hb hr (cs_nz _) (fun t ht hW => ⟨⟨(cs_b false), (), rfl, by rw [Bool.eq_false_iff.mpr (fun q => hq (hbb.mp q))], trivial⟩, hS.F ht⟩) hS.2.2 dX1_allNeeded_34

set_option maxHeartbeats 4000000 in
set_option maxRecDepth 100000 in
theorem cs_sweep_zero {p : Program} {l : Launch} {e : Env} {R : Room} {s : State} {m : MethodId} {args : Array Value} {below : List Frame} {meth : Method} {c : Code} {Q : State → Prop} {D : va_G} {A : Nat → Prop} {H0 : Heap} (hx : p.tables.exec = Jvm.exec) (hb : c.code = cX1_sweep) (hml : c.maxLocals = 6) (hown : s.vm.findClass RX1 = some m.cls) (hts : ∀ w ∈ lw_all, w.before args s = true) (hA : ∀ q : Nat, H0.size ≤ q → A q) (hR : 0 ≤ R.frames ∧ 0 ≤ R.locals) {ad : Nat → Nat} {cI cZ : ClassId} (hK : va_K D vwCl (cs_tM cI cZ) s) {n : Nat} {ky : Nat → Nat} {vl : Nat → Int32} {sp : Nat → Int32} {nd : Nat → Bool} {cm : Nat → Bool} {hs : Nat → Bool} {pl : Nat → Nat} (z : Nat) (hend : ∀ sh : Nat → Bool, (∀ a, a < 40 → sh a = false) → ∀ (H : Heap) (locs : List Loc), va_P D vwCl (cs_wM ad cI cZ n ky vl sp nd cm hs pl sh) H → va_D A (cs_wM ad cI cZ n ky vl sp nd cm hs pl sh) → va_S A H0 H locs → ∀ ls : Array Slot, lv_has ls 6 [(0, .ref (ad 0)), (1, .int (nI z)), (2, .int (nI 0)), (3, .int (nI 40))] → W p l e R s m args below meth c H locs 0 0 Q (F0 m 23 ls [])) :
    ∀ (j i : Nat), i + j = 40 → ∀ sh : Nat → Bool, (∀ a, a < i → sh a = false) → ∀ (H : Heap) (locs : List Loc), va_P D vwCl (cs_wM ad cI cZ n ky vl sp nd cm hs pl sh) H → va_D A (cs_wM ad cI cZ n ky vl sp nd cm hs pl sh) → va_S A H0 H locs → ∀ ls : Array Slot, lv_has ls 6 [(0, .ref (ad 0)), (1, .int (nI z)), (2, .int (nI 0)), (3, .int (nI i))] → W p l e R s m args below meth c H locs 0 0 Q (F0 m 4 ls []) := by
  intro j
  induction j with
  | zero =>
    intro i hi sh h0 H locs hP hD hS ls hl
    refine lv_iload_n hx hb dX1_sweep_4 rfl (lv_at hl 3 rfl) ?_
    refine lv_bipush (v := nI 40) hx hb dX1_sweep_5 (by decide) ?_
    refine cs_jge (tgt := 23) hx hb dX1_sweep_7 (by decide) (by omega) (by omega) (fun h => ?_) (fun h => absurd h (by omega))
    have hi : i = 40 := by omega
    subst hi
    exact hend sh h0 H locs hP hD hS ls hl
  | succ j ih =>
    intro i hi sh h0 H locs hP hD hS ls hl
    refine lv_iload_n hx hb dX1_sweep_4 rfl (lv_at hl 3 rfl) ?_
    refine lv_bipush (v := nI 40) hx hb dX1_sweep_5 (by decide) ?_
    refine cs_jge (tgt := 23) hx hb dX1_sweep_7 (by decide) (by omega) (by omega) (fun h => absurd h (by omega)) (fun h => ?_)
    refine lv_aload_n hx hb dX1_sweep_10 rfl (lv_at hl 0 rfl) ?_
    refine va_get (D := D) (ci := 1) (v := .ref (ad 8)) (C := RX1) (T := TX1) (N := 9) hx hb hts in_X1 hown hK hP 0 rfl rfl 8 (by decide) (hts _ q170) (fun _ h9 => h9) rfl dX1_sweep_11 ?_
    refine lv_iload_n hx hb dX1_sweep_14 rfl (lv_at hl 3 rfl) ?_
    refine lv_iconst (v := cs_b false) hx hb dX1_sweep_15 (by decide) ?_
    refine cs_zast (f := sh) (k := i) (x := false) hx hb hK hP hD hS 8 1 rfl rfl (by omega) (by decide) dX1_sweep_16 (fun H locs hP hD hS => ?_)
    have hP : va_P D vwCl (cs_wM ad cI cZ n ky vl sp nd cm hs pl (va_up sh i false)) H := hP
    have hD : va_D A (cs_wM ad cI cZ n ky vl sp nd cm hs pl (va_up sh i false)) := hD
    refine lv_iinc (v := nI (i + 1)) (lv' := [(3, .int (nI (i + 1))), (0, .ref (ad 0)), (1, .int (nI z)), (2, .int (nI 0))]) hx hb dX1_sweep_17 hl (k := 3) rfl (cs_inc _) (by decide) rfl (fun ls hl => ?_)
    refine lv_goto (tgt := 4) hx hb dX1_sweep_20 (by decide) ?_
    exact ih (i + 1) (by omega) _ (lt_s (fun a ha => by rw [va_up_ne _ _ (by omega)]; exact h0 a ha) (va_up_self _ _ _)) H locs hP hD hS ls (lv_sub hl [1, 2, 3, 0] rfl)

set_option maxHeartbeats 4000000 in
set_option maxRecDepth 100000 in
theorem cs_sweep_first {p : Program} {l : Launch} {e : Env} {R : Room} {s : State} {m : MethodId} {args : Array Value} {below : List Frame} {meth : Method} {c : Code} {Q : State → Prop} {D : va_G} {A : Nat → Prop} {H0 : Heap} (hx : p.tables.exec = Jvm.exec) (hb : c.code = cX1_sweep) (hml : c.maxLocals = 6) (hown : s.vm.findClass RX1 = some m.cls) (hts : ∀ w ∈ lw_all, w.before args s = true) (hA : ∀ q : Nat, H0.size ≤ q → A q) (hR : 1 ≤ R.frames ∧ 22 ≤ R.locals) {ad : Nat → Nat} {cI cZ : ClassId} (hK : va_K D vwCl (cs_tM cI cZ) s) {n : Nat} {ky : Nat → Nat} {vl : Nat → Int32} {sp : Nat → Int32} {nd : Nat → Bool} {cm : Nat → Bool} {hs : Nat → Bool} {pl : Nat → Nat} (z : Nat) (hz : z < 3) (hn : n ≤ 40) (V : Nat → Bool) (hV : ∀ v, v < n → (V v = true ↔ (cm (z * 40 + v) = true ∧ ∀ b, b < n → nd (v * 40 + b) = true → V b = true))) (hnd : ∀ v b, v < n → b < n → nd (v * 40 + b) = true → b < v) (hend : ∀ (mb : Bool) (sh : Nat → Bool), (∀ a, a < n → sh a = V a) → ∀ (H : Heap) (locs : List Loc), va_P D vwCl (cs_wM ad cI cZ n ky vl sp nd cm hs pl sh) H → va_D A (cs_wM ad cI cZ n ky vl sp nd cm hs pl sh) → va_S A H0 H locs → ∀ ls : Array Slot, lv_has ls 6 [(0, .ref (ad 0)), (1, .int (nI z)), (2, .int (nI (cs_n V n))), (3, .int (cs_b mb)), (4, .int (nI 0)), (5, .int (nI n))] → W p l e R s m args below meth c H locs 0 0 Q (F0 m 106 ls [])) :
    ∀ (j i : Nat), i + j = n → ∀ (mb : Bool) (sh : Nat → Bool), (∀ a, a < i → sh a = V a) → (∀ a, i ≤ a → a < 40 → sh a = false) → ∀ (H : Heap) (locs : List Loc), va_P D vwCl (cs_wM ad cI cZ n ky vl sp nd cm hs pl sh) H → va_D A (cs_wM ad cI cZ n ky vl sp nd cm hs pl sh) → va_S A H0 H locs → ∀ ls : Array Slot, lv_has ls 6 [(0, .ref (ad 0)), (1, .int (nI z)), (2, .int (nI (cs_n V i))), (3, .int (cs_b mb)), (4, .int (nI 0)), (5, .int (nI i))] → W p l e R s m args below meth c H locs 0 0 Q (F0 m 44 ls []) := by
  intro j
  induction j with
  | zero =>
    intro i hi mb sh h0 h1 H locs hP hD hS ls hl
    refine lv_iload hx hb dX1_sweep_44 (lv_at hl 5 rfl) ?_
    refine lv_aload_n hx hb dX1_sweep_46 rfl (lv_at hl 0 rfl) ?_
    refine va_get (D := D) (ci := 1) (v := .int (nI n)) (C := RX1) (T := TX1) (N := 9) hx hb hts in_X1 hown hK hP 0 rfl rfl 0 (by decide) (hts _ q162) (fun _ h9 => h9) rfl dX1_sweep_47 ?_
    refine cs_jge (tgt := 106) hx hb dX1_sweep_50 (by decide) (by omega) (by omega) (fun h => ?_) (fun h => absurd h (by omega))
    have hi : i = n := by omega
    subst hi
    exact hend mb sh h0 H locs hP hD hS ls hl
  | succ j ih =>
    intro i hi mb sh h0 h1 H locs hP hD hS ls hl
    refine lv_iload hx hb dX1_sweep_44 (lv_at hl 5 rfl) ?_
    refine lv_aload_n hx hb dX1_sweep_46 rfl (lv_at hl 0 rfl) ?_
    refine va_get (D := D) (ci := 1) (v := .int (nI n)) (C := RX1) (T := TX1) (N := 9) hx hb hts in_X1 hown hK hP 0 rfl rfl 0 (by decide) (hts _ q162) (fun _ h9 => h9) rfl dX1_sweep_47 ?_
    refine cs_jge (tgt := 106) hx hb dX1_sweep_50 (by decide) (by omega) (by omega) (fun h => absurd h (by omega)) (fun h => ?_)
    have hsi : sh i = false := h1 i (Nat.le_refl i) (by omega)
    refine lv_aload_n hx hb dX1_sweep_53 rfl (lv_at hl 0 rfl) ?_
    refine va_get (D := D) (ci := 1) (v := .ref (ad 8)) (C := RX1) (T := TX1) (N := 9) hx hb hts in_X1 hown hK hP 0 rfl rfl 8 (by decide) (hts _ q170) (fun _ h9 => h9) rfl dX1_sweep_54 ?_
    refine lv_iload hx hb dX1_sweep_57 (lv_at hl 5 rfl) ?_
    refine cs_zald hx hb hK hP 8 1 rfl rfl (k := i) (by omega) (by decide) dX1_sweep_59 ?_
    refine cs_zne (tgt := 100) hx hb dX1_sweep_60 (by decide) (fun h2 => absurd (hsi.symm.trans h2) (by decide)) (fun h2 => ?_)
    refine lv_aload_n hx hb dX1_sweep_63 rfl (lv_at hl 0 rfl) ?_
    refine va_get (D := D) (ci := 1) (v := .ref (ad 5)) (C := RX1) (T := TX1) (N := 9) hx hb hts in_X1 hown hK hP 0 rfl rfl 5 (by decide) (hts _ q167) (fun _ h9 => h9) rfl dX1_sweep_64 ?_
    refine lv_iload_n hx hb dX1_sweep_67 rfl (lv_at hl 1 rfl) ?_
    refine lv_bipush (v := nI 40) hx hb dX1_sweep_68 (by decide) ?_
    refine cs_imul hx hb dX1_sweep_70 ?_
    refine lv_iload hx hb dX1_sweep_71 (lv_at hl 5 rfl) ?_
    refine cs_iadd hx hb dX1_sweep_73 ?_
    refine cs_zald hx hb hK hP 5 1 rfl rfl (k := (z * 40) + i) (by omega) (by decide) dX1_sweep_74 ?_
    refine cs_zeq (tgt := 100) hx hb dX1_sweep_75 (by decide) (fun h3 => ?_) (fun h3 => ?_)
    · have hVi : V i = false := Bool.eq_false_iff.mpr (fun q => absurd (h3.symm.trans ((hV i h).mp q).1) (by decide))
      refine lv_iinc (v := nI (i + 1)) (lv' := [(5, .int (nI (i + 1))), (0, .ref (ad 0)), (1, .int (nI z)), (2, .int (nI (cs_n V i))), (3, .int (cs_b mb)), (4, .int (nI 0))]) hx hb dX1_sweep_100 hl (k := 5) rfl (cs_inc _) (by decide) rfl (fun ls hl => ?_)
      refine lv_goto (tgt := 44) hx hb dX1_sweep_103 (by decide) ?_
      exact ih (i + 1) (by omega) mb sh (lt_s h0 (hsi.trans hVi.symm)) (fun a ha hb => h1 a (by omega) hb) H locs hP hD hS ls (by rw [cs_n_f hVi]; exact lv_sub hl [1, 2, 3, 4, 5, 0] rfl)
    · have hbb : V i = true ↔ ∀ a, a < n → nd (i * 40 + a) = true → sh a = true := (hV i h).trans ⟨fun q a ha hd => by rw [h0 a (hnd i a h ha hd)]; exact q.2 a ha hd, fun q => ⟨h3, fun a ha hd => by rw [← h0 a (hnd i a h ha hd)]; exact q a ha hd⟩⟩
      refine lv_aload_n hx hb dX1_sweep_78 rfl (lv_at hl 0 rfl) ?_
      refine lv_iload hx hb dX1_sweep_79 (lv_at hl 5 rfl) ?_
      refine cs_callRV (C := RX1) (As := [.int (nI i)]) (rest := []) ⟨hx, hb, hml, hown, hts⟩ (cs_allNeeded l D i (by omega) hn (V i) hbb) (cwV 1 hts (lw_V q215 q217 qs9 q13 q218) rfl rfl rfl (by decide +kernel) ⟨Nat.le_trans (Nat.le_of_ble_eq_true rfl) hR.1, Nat.le_trans (Nat.le_of_ble_eq_true rfl) hR.2⟩) (va_recv hK hP (ci := 1) (q0 := 0) rfl rfl) hP hK hP hS hA rfl hl.1 rfl (Nat.le_of_ble_eq_true rfl) dX1_sweep_81 ⟨Nat.zero_le _, Nat.zero_le _⟩ (fun H locs hP hS => ?_)
      refine cs_zeq (tgt := 100) hx hb dX1_sweep_84 (by decide) (fun h4 => ?_) (fun h4 => ?_)
      · have hVi : V i = false := h4
        refine lv_iinc (v := nI (i + 1)) (lv' := [(5, .int (nI (i + 1))), (0, .ref (ad 0)), (1, .int (nI z)), (2, .int (nI (cs_n V i))), (3, .int (cs_b mb)), (4, .int (nI 0))]) hx hb dX1_sweep_100 hl (k := 5) rfl (cs_inc _) (by decide) rfl (fun ls hl => ?_)
        refine lv_goto (tgt := 44) hx hb dX1_sweep_103 (by decide) ?_
        exact ih (i + 1) (by omega) mb sh (lt_s h0 (hsi.trans hVi.symm)) (fun a ha hb => h1 a (by omega) hb) H locs hP hD hS ls (by rw [cs_n_f hVi]; exact lv_sub hl [1, 2, 3, 4, 5, 0] rfl)
      · refine lv_aload_n hx hb dX1_sweep_87 rfl (lv_at hl 0 rfl) ?_
        refine va_get (D := D) (ci := 1) (v := .ref (ad 8)) (C := RX1) (T := TX1) (N := 9) hx hb hts in_X1 hown hK hP 0 rfl rfl 8 (by decide) (hts _ q170) (fun _ h9 => h9) rfl dX1_sweep_88 ?_
        refine lv_iload hx hb dX1_sweep_91 (lv_at hl 5 rfl) ?_
        refine lv_iconst (v := cs_b true) hx hb dX1_sweep_93 (by decide) ?_
        refine cs_zast (f := sh) (k := i) (x := true) hx hb hK hP hD hS 8 1 rfl rfl (by omega) (by decide) dX1_sweep_94 (fun H locs hP hD hS => ?_)
        have hP : va_P D vwCl (cs_wM ad cI cZ n ky vl sp nd cm hs pl (va_up sh i true)) H := hP
        have hD : va_D A (cs_wM ad cI cZ n ky vl sp nd cm hs pl (va_up sh i true)) := hD
        refine lv_iconst (v := cs_b true) hx hb dX1_sweep_95 (by decide) ?_
        refine lv_istore_n (lv' := [(3, .int (cs_b true)), (0, .ref (ad 0)), (1, .int (nI z)), (2, .int (nI (cs_n V i))), (4, .int (nI 0)), (5, .int (nI i))]) hx hb dX1_sweep_96 rfl hl (by decide) rfl (fun ls hl => ?_)
        refine lv_iinc (v := nI (cs_n V i + 1)) (lv' := [(2, .int (nI (cs_n V i + 1))), (3, .int (cs_b true)), (0, .ref (ad 0)), (1, .int (nI z)), (4, .int (nI 0)), (5, .int (nI i))]) hx hb dX1_sweep_97 hl (k := 3) rfl (cs_inc _) (by decide) rfl (fun ls hl => ?_)
        refine lv_iinc (v := nI (i + 1)) (lv' := [(5, .int (nI (i + 1))), (2, .int (nI (cs_n V i + 1))), (3, .int (cs_b true)), (0, .ref (ad 0)), (1, .int (nI z)), (4, .int (nI 0))]) hx hb dX1_sweep_100 hl (k := 5) rfl (cs_inc _) (by decide) rfl (fun ls hl => ?_)
        refine lv_goto (tgt := 44) hx hb dX1_sweep_103 (by decide) ?_
        exact ih (i + 1) (by omega) true _ (lt_s (fun a ha => by rw [va_up_ne _ _ (by omega)]; exact h0 a ha) (by rw [va_up_self]; exact h4.symm)) (fun a ha hb => by rw [va_up_ne _ _ (by omega)]; exact h1 a (by omega) hb) H locs hP hD hS ls (by rw [cs_n_t h4]; exact lv_sub hl [3, 4, 1, 2, 5, 0] rfl)

set_option maxHeartbeats 4000000 in
set_option maxRecDepth 100000 in
theorem cs_sweep_second {p : Program} {l : Launch} {e : Env} {R : Room} {s : State} {m : MethodId} {args : Array Value} {below : List Frame} {meth : Method} {c : Code} {Q : State → Prop} {D : va_G} {A : Nat → Prop} {H0 : Heap} (hx : p.tables.exec = Jvm.exec) (hb : c.code = cX1_sweep) (hml : c.maxLocals = 6) (hown : s.vm.findClass RX1 = some m.cls) (hts : ∀ w ∈ lw_all, w.before args s = true) (hA : ∀ q : Nat, H0.size ≤ q → A q) (hR : 1 ≤ R.frames ∧ 22 ≤ R.locals) {ad : Nat → Nat} {cI cZ : ClassId} (hK : va_K D vwCl (cs_tM cI cZ) s) {n : Nat} {ky : Nat → Nat} {vl : Nat → Int32} {sp : Nat → Int32} {nd : Nat → Bool} {cm : Nat → Bool} {hs : Nat → Bool} {pl : Nat → Nat} {sh : Nat → Bool} (z : Nat) (hz : z < 3) (hn : n ≤ 40) (V : Nat → Bool) (hV : ∀ v, v < n → (V v = true ↔ (cm (z * 40 + v) = true ∧ ∀ b, b < n → nd (v * 40 + b) = true → V b = true))) (hnd : ∀ v b, v < n → b < n → nd (v * 40 + b) = true → b < v) (h0 : ∀ a, a < n → sh a = V a) (hend : ∀ (H : Heap) (locs : List Loc), va_P D vwCl (cs_wM ad cI cZ n ky vl sp nd cm hs pl sh) H → va_S A H0 H locs → ∀ ls : Array Slot, lv_has ls 6 [(0, .ref (ad 0)), (1, .int (nI z)), (2, .int (nI (cs_n V n))), (3, .int (cs_b false)), (4, .int (nI 1)), (5, .int (nI n))] → W p l e R s m args below meth c H locs 0 0 Q (F0 m 106 ls [])) :
    ∀ (j i : Nat), i + j = n → ∀ (H : Heap) (locs : List Loc), va_P D vwCl (cs_wM ad cI cZ n ky vl sp nd cm hs pl sh) H → va_S A H0 H locs → ∀ ls : Array Slot, lv_has ls 6 [(0, .ref (ad 0)), (1, .int (nI z)), (2, .int (nI (cs_n V n))), (3, .int (cs_b false)), (4, .int (nI 1)), (5, .int (nI i))] → W p l e R s m args below meth c H locs 0 0 Q (F0 m 44 ls []) := by
  intro j
  induction j with
  | zero =>
    intro i hi H locs hP hS ls hl
    refine lv_iload hx hb dX1_sweep_44 (lv_at hl 5 rfl) ?_
    refine lv_aload_n hx hb dX1_sweep_46 rfl (lv_at hl 0 rfl) ?_
    refine va_get (D := D) (ci := 1) (v := .int (nI n)) (C := RX1) (T := TX1) (N := 9) hx hb hts in_X1 hown hK hP 0 rfl rfl 0 (by decide) (hts _ q162) (fun _ h9 => h9) rfl dX1_sweep_47 ?_
    refine cs_jge (tgt := 106) hx hb dX1_sweep_50 (by decide) (by omega) (by omega) (fun h => ?_) (fun h => absurd h (by omega))
    have hi : i = n := by omega
    subst hi
    exact hend H locs hP hS ls hl
  | succ j ih =>
    intro i hi H locs hP hS ls hl
    refine lv_iload hx hb dX1_sweep_44 (lv_at hl 5 rfl) ?_
    refine lv_aload_n hx hb dX1_sweep_46 rfl (lv_at hl 0 rfl) ?_
    refine va_get (D := D) (ci := 1) (v := .int (nI n)) (C := RX1) (T := TX1) (N := 9) hx hb hts in_X1 hown hK hP 0 rfl rfl 0 (by decide) (hts _ q162) (fun _ h9 => h9) rfl dX1_sweep_47 ?_
    refine cs_jge (tgt := 106) hx hb dX1_sweep_50 (by decide) (by omega) (by omega) (fun h => absurd h (by omega)) (fun h => ?_)
    refine lv_aload_n hx hb dX1_sweep_53 rfl (lv_at hl 0 rfl) ?_
    refine va_get (D := D) (ci := 1) (v := .ref (ad 8)) (C := RX1) (T := TX1) (N := 9) hx hb hts in_X1 hown hK hP 0 rfl rfl 8 (by decide) (hts _ q170) (fun _ h9 => h9) rfl dX1_sweep_54 ?_
    refine lv_iload hx hb dX1_sweep_57 (lv_at hl 5 rfl) ?_
    refine cs_zald hx hb hK hP 8 1 rfl rfl (k := i) (by omega) (by decide) dX1_sweep_59 ?_
    refine cs_zne (tgt := 100) hx hb dX1_sweep_60 (by decide) (fun h2 => ?_) (fun h2 => ?_)
    · refine lv_iinc (v := nI (i + 1)) (lv' := [(5, .int (nI (i + 1))), (0, .ref (ad 0)), (1, .int (nI z)), (2, .int (nI (cs_n V n))), (3, .int (cs_b false)), (4, .int (nI 1))]) hx hb dX1_sweep_100 hl (k := 5) rfl (cs_inc _) (by decide) rfl (fun ls hl => ?_)
      refine lv_goto (tgt := 44) hx hb dX1_sweep_103 (by decide) ?_
      exact ih (i + 1) (by omega) H locs hP hS ls (lv_sub hl [1, 2, 3, 4, 5, 0] rfl)
    · refine lv_aload_n hx hb dX1_sweep_63 rfl (lv_at hl 0 rfl) ?_
      refine va_get (D := D) (ci := 1) (v := .ref (ad 5)) (C := RX1) (T := TX1) (N := 9) hx hb hts in_X1 hown hK hP 0 rfl rfl 5 (by decide) (hts _ q167) (fun _ h9 => h9) rfl dX1_sweep_64 ?_
      refine lv_iload_n hx hb dX1_sweep_67 rfl (lv_at hl 1 rfl) ?_
      refine lv_bipush (v := nI 40) hx hb dX1_sweep_68 (by decide) ?_
      refine cs_imul hx hb dX1_sweep_70 ?_
      refine lv_iload hx hb dX1_sweep_71 (lv_at hl 5 rfl) ?_
      refine cs_iadd hx hb dX1_sweep_73 ?_
      refine cs_zald hx hb hK hP 5 1 rfl rfl (k := (z * 40) + i) (by omega) (by decide) dX1_sweep_74 ?_
      refine cs_zeq (tgt := 100) hx hb dX1_sweep_75 (by decide) (fun h3 => ?_) (fun h3 => ?_)
      · refine lv_iinc (v := nI (i + 1)) (lv' := [(5, .int (nI (i + 1))), (0, .ref (ad 0)), (1, .int (nI z)), (2, .int (nI (cs_n V n))), (3, .int (cs_b false)), (4, .int (nI 1))]) hx hb dX1_sweep_100 hl (k := 5) rfl (cs_inc _) (by decide) rfl (fun ls hl => ?_)
        refine lv_goto (tgt := 44) hx hb dX1_sweep_103 (by decide) ?_
        exact ih (i + 1) (by omega) H locs hP hS ls (lv_sub hl [1, 2, 3, 4, 5, 0] rfl)
      · have hVi : V i = false := (h0 i h).symm.trans h2
        have hbb : false = true ↔ ∀ a, a < n → nd (i * 40 + a) = true → sh a = true := ⟨fun q => absurd q (by decide), fun q => absurd (hVi.symm.trans ((hV i h).mpr ⟨h3, fun a ha hd => by rw [← h0 a ha]; exact q a ha hd⟩)) (by decide)⟩
        refine lv_aload_n hx hb dX1_sweep_78 rfl (lv_at hl 0 rfl) ?_
        refine lv_iload hx hb dX1_sweep_79 (lv_at hl 5 rfl) ?_
        refine cs_callRV (C := RX1) (As := [.int (nI i)]) (rest := []) ⟨hx, hb, hml, hown, hts⟩ (cs_allNeeded l D i (by omega) hn false hbb) (cwV 1 hts (lw_V q215 q217 qs9 q13 q218) rfl rfl rfl (by decide +kernel) ⟨Nat.le_trans (Nat.le_of_ble_eq_true rfl) hR.1, Nat.le_trans (Nat.le_of_ble_eq_true rfl) hR.2⟩) (va_recv hK hP (ci := 1) (q0 := 0) rfl rfl) hP hK hP hS hA rfl hl.1 rfl (Nat.le_of_ble_eq_true rfl) dX1_sweep_81 ⟨Nat.zero_le _, Nat.zero_le _⟩ (fun H locs hP hS => ?_)
        refine cs_zeq (tgt := 100) hx hb dX1_sweep_84 (by decide) (fun h4 => ?_) (fun h4 => absurd h4 (by decide))
        refine lv_iinc (v := nI (i + 1)) (lv' := [(5, .int (nI (i + 1))), (0, .ref (ad 0)), (1, .int (nI z)), (2, .int (nI (cs_n V n))), (3, .int (cs_b false)), (4, .int (nI 1))]) hx hb dX1_sweep_100 hl (k := 5) rfl (cs_inc _) (by decide) rfl (fun ls hl => ?_)
        refine lv_goto (tgt := 44) hx hb dX1_sweep_103 (by decide) ?_
        exact ih (i + 1) (by omega) H locs hP hS ls (lv_sub hl [1, 2, 3, 4, 5, 0] rfl)

set_option maxHeartbeats 4000000 in
set_option maxRecDepth 100000 in
theorem cs_sweep (l : Launch) (D : va_G) {ad : Nat → Nat} {cI cZ : ClassId} {n : Nat} {ky : Nat → Nat} {vl : Nat → Int32} {sp : Nat → Int32} {nd : Nat → Bool} {cm : Nat → Bool} {hs : Nat → Bool} {pl : Nat → Nat} {sh : Nat → Bool} (z : Nat) (hz : z < 3) (hn : n ≤ 40) (V : Nat → Bool) (hV : ∀ v, v < n → (V v = true ↔ (cm (z * 40 + v) = true ∧ ∀ b, b < n → nd (v * 40 + b) = true → V b = true))) (hnd : ∀ v b, v < n → b < n → nd (v * 40 + b) = true → b < v) : cs_MW l yX1_sweep (ws_ yX1_sweep cX1_sweep 6 (some .int)) ({ frames := 1, cells := 0, slots := 0, locals := 22 }) D vwCl (cs_wM ad cI cZ n ky vl sp nd cm hs pl sh) (cs_tM cI cZ) [.ref (ad 0), .int (nI z)] (fun r w' => r = nI (cs_n V n) ∧ ∃ sh1 : Nat → Bool, (∀ a, a < n → sh1 a = V a) ∧ w' = cs_wM ad cI cZ n ky vl sp nd cm hs pl sh1) := by
  intro sz
  refine Met.ofW (cc := cX1_sweep) (maxL := 6) (ret := (some .int)) (by decide) rfl ?_
  intro p e s m args below meth c s₁ B hml hv9
  obtain ⟨rfl, hsz, hP, hK, hD0⟩ := hv9
  have hx := B.exec
  have hb := B.bytes
  have hr := B.returns
  have hts := atoms_spec (ws := (ws_ yX1_sweep cX1_sweep 6 (some .int))) B.pre
  have hts : ∀ w ∈ lw_all, w.before _ s = true := fun w h => hts w (List.mem_cons_of_mem _ h)
  have hown : s.vm.findClass RX1 = some m.cls := findClass_of_methodNamed B.named
  have hlocks := B.notSynchronized
  subst hsz
  have hD := hD0.self (sz := s.heap.size)
  generalize hAe : va_A (cs_wM ad cI cZ n ky vl sp nd cm hs pl sh) s.heap.size = A at hD ⊢
  have hA : ∀ q : Nat, s.heap.size ≤ q → A q := fun q h => by rw [← hAe]; exact Or.inr h
  have hS : va_S A s.heap s.heap [] := va_S.rf
  have hP : va_P D vwCl (cs_wM ad cI cZ n ky vl sp nd cm hs pl sh) s.heap := hP
  have hl := lv_entry ([.ref (ad 0), .int (nI z)]) (n := 6) (Nat.le_of_ble_eq_true rfl)
  rw [lg_entry_eq]
  generalize (lg_sl ([.ref (ad 0), .int (nI z)]) ++ List.replicate (6 - (lg_sl ([.ref (ad 0), .int (nI z)])).length) Slot.unset).toArray = ls at hl ⊢
  have hl : lv_has ls 6 [(0, .ref (ad 0)), (1, .int (nI z))] := hl
  refine lv_iconst (v := nI 0) hx hb dX1_sweep_0 (by decide) ?_
  refine lv_istore_n (lv' := [(2, .int (nI 0)), (0, .ref (ad 0)), (1, .int (nI z))]) hx hb dX1_sweep_1 rfl hl (by decide) rfl (fun ls hl => ?_)
  refine lv_iconst (v := nI 0) hx hb dX1_sweep_2 (by decide) ?_
  refine lv_istore_n (lv' := [(3, .int (nI 0)), (2, .int (nI 0)), (0, .ref (ad 0)), (1, .int (nI z))]) hx hb dX1_sweep_3 rfl hl (by decide) rfl (fun ls hl => ?_)
  refine cs_sweep_zero hx hb hml hown hts hA ⟨Nat.zero_le _, Nat.zero_le _⟩ hK z (fun sh hz0 H locs hP hD hS ls hl => ?_) 40 0 rfl sh (fun a ha => absurd ha (by omega)) _ _ hP hD hS ls (lv_sub hl [2, 3, 1, 0] rfl)
  refine lv_iconst (v := cs_b true) hx hb dX1_sweep_23 (by decide) ?_
  refine lv_istore_n (lv' := [(3, .int (cs_b true)), (0, .ref (ad 0)), (1, .int (nI z)), (2, .int (nI 0))]) hx hb dX1_sweep_24 rfl hl (by decide) rfl (fun ls hl => ?_)
  refine lv_iconst (v := nI 0) hx hb dX1_sweep_25 (by decide) ?_
  refine lv_istore (lv' := [(4, .int (nI 0)), (3, .int (cs_b true)), (0, .ref (ad 0)), (1, .int (nI z)), (2, .int (nI 0))]) hx hb dX1_sweep_26 hl (by decide) rfl (fun ls hl => ?_)
  refine lv_iload hx hb dX1_sweep_28 (lv_at hl 0 rfl) ?_
  refine lv_bipush (v := nI 41) hx hb dX1_sweep_30 (by decide) ?_
  refine cs_jge (tgt := 112) hx hb dX1_sweep_32 (by decide) (by omega) (by omega) (fun h4 => absurd h4 (by omega)) (fun h4 => ?_)
  refine lv_iload_n hx hb dX1_sweep_35 rfl (lv_at hl 1 rfl) ?_
  refine cs_zeq (tgt := 112) hx hb dX1_sweep_36 (by decide) (fun h5 => absurd h5 (by decide)) (fun h5 => ?_)
  refine lv_iconst (v := cs_b false) hx hb dX1_sweep_39 (by decide) ?_
  refine lv_istore_n (lv' := [(3, .int (cs_b false)), (4, .int (nI 0)), (0, .ref (ad 0)), (1, .int (nI z)), (2, .int (nI 0))]) hx hb dX1_sweep_40 rfl hl (by decide) rfl (fun ls hl => ?_)
  refine lv_iconst (v := nI 0) hx hb dX1_sweep_41 (by decide) ?_
  refine lv_istore (lv' := [(5, .int (nI 0)), (3, .int (cs_b false)), (4, .int (nI 0)), (0, .ref (ad 0)), (1, .int (nI z)), (2, .int (nI 0))]) hx hb dX1_sweep_42 hl (by decide) rfl (fun ls hl => ?_)
  refine cs_sweep_first hx hb hml hown hts hA ⟨Nat.le_of_ble_eq_true rfl, Nat.le_of_ble_eq_true rfl⟩ hK z hz hn V hV hnd (fun mb sh h0 H locs hP hD hS ls hl => ?_) n 0 (by omega) false sh (fun a ha => absurd ha (by omega)) (fun a _ ha => hz0 a ha) _ _ hP hD hS ls (lv_sub hl [3, 4, 5, 1, 2, 0] rfl)
  refine lv_iinc (v := nI (0 + 1)) (lv' := [(4, .int (nI (0 + 1))), (0, .ref (ad 0)), (1, .int (nI z)), (2, .int (nI (cs_n V n))), (3, .int (cs_b mb)), (5, .int (nI n))]) hx hb dX1_sweep_106 hl (k := 4) rfl (cs_inc _) (by decide) rfl (fun ls hl => ?_)
  refine lv_goto (tgt := 28) hx hb dX1_sweep_109 (by decide) ?_
  refine lv_iload hx hb dX1_sweep_28 (lv_at hl 0 rfl) ?_
  refine lv_bipush (v := nI 41) hx hb dX1_sweep_30 (by decide) ?_
  refine cs_jge (tgt := 112) hx hb dX1_sweep_32 (by decide) (by omega) (by omega) (fun h6 => absurd h6 (by omega)) (fun h6 => ?_)
  refine lv_iload_n hx hb dX1_sweep_35 rfl (lv_at hl 4 rfl) ?_
  refine cs_zeq (tgt := 112) hx hb dX1_sweep_36 (by decide) (fun h7 => ?_) (fun h7 => ?_)
  · refine lv_iload_n hx hb dX1_sweep_112 rfl (lv_at hl 3 rfl) ?_
    exact W.iret (v := (nI (cs_n V n))) hx hb hr (fun t ht hW => ⟨⟨(nI (cs_n V n)), cs_wM ad cI cZ n ky vl sp nd cm hs pl sh, rfl, ⟨rfl, sh, h0, rfl⟩, by rw [ht]; exact hP, hD⟩, hS.F ht⟩) hS.2.2 dX1_sweep_113
  · refine lv_iconst (v := cs_b false) hx hb dX1_sweep_39 (by decide) ?_
    refine lv_istore_n (lv' := [(3, .int (cs_b false)), (4, .int (nI (0 + 1))), (0, .ref (ad 0)), (1, .int (nI z)), (2, .int (nI (cs_n V n))), (5, .int (nI n))]) hx hb dX1_sweep_40 rfl hl (by decide) rfl (fun ls hl => ?_)
    refine lv_iconst (v := nI 0) hx hb dX1_sweep_41 (by decide) ?_
    refine lv_istore (lv' := [(5, .int (nI 0)), (3, .int (cs_b false)), (4, .int (nI (0 + 1))), (0, .ref (ad 0)), (1, .int (nI z)), (2, .int (nI (cs_n V n)))]) hx hb dX1_sweep_42 hl (by decide) rfl (fun ls hl => ?_)
    refine cs_sweep_second hx hb hml hown hts hA ⟨Nat.le_of_ble_eq_true rfl, Nat.le_of_ble_eq_true rfl⟩ hK z hz hn V hV hnd h0 (fun H locs hP hS ls hl => ?_) n 0 (by omega) _ _ hP hS ls (lv_sub hl [3, 4, 5, 1, 2, 0] rfl)
    refine lv_iinc (v := nI (1 + 1)) (lv' := [(4, .int (nI (1 + 1))), (0, .ref (ad 0)), (1, .int (nI z)), (2, .int (nI (cs_n V n))), (3, .int (cs_b false)), (5, .int (nI n))]) hx hb dX1_sweep_106 hl (k := 4) rfl (cs_inc _) (by decide) rfl (fun ls hl => ?_)
    refine lv_goto (tgt := 28) hx hb dX1_sweep_109 (by decide) ?_
    refine lv_iload hx hb dX1_sweep_28 (lv_at hl 0 rfl) ?_
    refine lv_bipush (v := nI 41) hx hb dX1_sweep_30 (by decide) ?_
    refine cs_jge (tgt := 112) hx hb dX1_sweep_32 (by decide) (by omega) (by omega) (fun h8 => absurd h8 (by omega)) (fun h8 => ?_)
    refine lv_iload_n hx hb dX1_sweep_35 rfl (lv_at hl 4 rfl) ?_
    refine cs_zeq (tgt := 112) hx hb dX1_sweep_36 (by decide) (fun h9 => ?_) (fun h9 => absurd h9 (by decide))
    refine lv_iload_n hx hb dX1_sweep_112 rfl (lv_at hl 3 rfl) ?_
    exact W.iret (v := (nI (cs_n V n))) hx hb hr (fun t ht hW => ⟨⟨(nI (cs_n V n)), cs_wM ad cI cZ n ky vl sp nd cm hs pl sh, rfl, ⟨rfl, sh, h0, rfl⟩, by rw [ht]; exact hP, hD⟩, hS.F ht⟩) hS.2.2 dX1_sweep_113
end
section
/-! winners and greatest stamps, in plain words -/
/-- o is the winner of key k among the versions below n that are in V: the greatest stamp, then the greatest version -/
def cs_W (n : Nat) (ky : Nat → Nat) (sp : Nat → Int32) (V : Nat → Bool) (k : Nat) (o : Option Nat) : Prop := match o with
  | none => ∀ v, v < n → V v = true → ¬ ky v = k
  | some j => j < n ∧ V j = true ∧ ky j = k ∧ ∀ v, v < n → V v = true → ky v = k → (sp v < sp j ∨ (sp v = sp j ∧ v ≤ j))
theorem cs_ltT {a b : Int32} : a < b ↔ a.toInt < b.toInt := Int32.lt_iff_toInt_lt
theorem cs_leT {a b : Int32} : a ≤ b ↔ a.toInt ≤ b.toInt := Int32.le_iff_toInt_le
theorem cs_eqT {a b : Int32} : a = b ↔ a.toInt = b.toInt := Int32.toInt_inj.symm
theorem cs_W_0 {ky : Nat → Nat} {sp : Nat → Int32} {V : Nat → Bool} {k : Nat} : cs_W 0 ky sp V k none := fun v hv => absurd hv (by omega)
theorem cs_W_skip {n : Nat} {ky : Nat → Nat} {sp : Nat → Int32} {V : Nat → Bool} {k : Nat} {o : Option Nat} (h : cs_W n ky sp V k o) (hn : ¬ (V n = true ∧ ky n = k)) : cs_W (n + 1) ky sp V k o := by
  cases o with
  | none =>
    intro v hv hV hk
    rcases Nat.lt_or_ge v n with q | q
    · exact h v q hV hk
    · have : v = n := by omega
      subst this
      exact hn ⟨hV, hk⟩
  | some j =>
    obtain ⟨h1, h2, h3, h4⟩ := h
    refine ⟨by omega, h2, h3, fun v hv hV hk => ?_⟩
    rcases Nat.lt_or_ge v n with q | q
    · exact h4 v q hV hk
    · have : v = n := by omega
      subst this
      exact absurd ⟨hV, hk⟩ hn
theorem cs_W_new {n : Nat} {ky : Nat → Nat} {sp : Nat → Int32} {V : Nat → Bool} {k : Nat} (h : cs_W n ky sp V k none) (hV : V n = true) (hk : ky n = k) : cs_W (n + 1) ky sp V k (some n) := by
  refine ⟨by omega, hV, hk, fun v hv hV hk => ?_⟩
  rcases Nat.lt_or_ge v n with q | q
  · exact absurd hk (h v q hV)
  · have : v = n := by omega
    subst this
    exact Or.inr ⟨rfl, Nat.le_refl v⟩
theorem cs_W_take {n : Nat} {ky : Nat → Nat} {sp : Nat → Int32} {V : Nat → Bool} {k j : Nat} (h : cs_W n ky sp V k (some j)) (hV : V n = true) (hk : ky n = k) (hs : sp j ≤ sp n) : cs_W (n + 1) ky sp V k (some n) := by
  obtain ⟨h1, h2, h3, h4⟩ := h
  refine ⟨by omega, hV, hk, fun v hv hV hk => ?_⟩
  rcases Nat.lt_or_ge v n with q | q
  · have h5 := h4 v q hV hk
    rw [cs_leT] at hs
    rw [cs_ltT, cs_eqT] at h5
    rw [cs_ltT, cs_eqT]
    omega
  · have : v = n := by omega
    subst this
    exact Or.inr ⟨rfl, Nat.le_refl v⟩
theorem cs_W_keep {n : Nat} {ky : Nat → Nat} {sp : Nat → Int32} {V : Nat → Bool} {k j : Nat} (h : cs_W n ky sp V k (some j)) (hs : sp n < sp j) : cs_W (n + 1) ky sp V k (some j) := by
  obtain ⟨h1, h2, h3, h4⟩ := h
  refine ⟨by omega, h2, h3, fun v hv hV hk => ?_⟩
  rcases Nat.lt_or_ge v n with q | q
  · exact h4 v q hV hk
  · have : v = n := by omega
    subst this
    exact Or.inl hs
theorem cs_W_uniq {n : Nat} {ky : Nat → Nat} {sp : Nat → Int32} {V : Nat → Bool} {k : Nat} {o o' : Option Nat} (h : cs_W n ky sp V k o) (h' : cs_W n ky sp V k o') : o = o' := by
  cases o with
  | none =>
    cases o' with
    | none => rfl
    | some j => exact absurd h'.2.2.1 (h j h'.1 h'.2.1)
  | some i =>
    cases o' with
    | none => exact absurd h.2.2.1 (h' i h.1 h.2.1)
    | some j =>
      have a := h.2.2.2 j h'.1 h'.2.1 h'.2.2.1
      have b := h'.2.2.2 i h.1 h.2.1 h.2.2.1
      rw [cs_ltT, cs_eqT] at a b
      have : i = j := by omega
      rw [this]
theorem cs_W_lt {n : Nat} {ky : Nat → Nat} {sp : Nat → Int32} {V : Nat → Bool} {k j : Nat} (h : cs_W n ky sp V k (some j)) : j < n := h.1
/-- x is the greatest of 0 and the stamps of the versions below n that are in f -/
def cs_X (n : Nat) (sp : Nat → Int32) (f : Nat → Bool) (x : Int32) : Prop := 0 ≤ x ∧ (∀ b, b < n → f b = true → sp b ≤ x) ∧ (x = 0 ∨ ∃ b, b < n ∧ f b = true ∧ sp b = x)
theorem cs_X_0 {sp : Nat → Int32} {f : Nat → Bool} : cs_X 0 sp f 0 := ⟨by decide, fun b hb => absurd hb (by omega), Or.inl rfl⟩
theorem cs_X_skip {n : Nat} {sp : Nat → Int32} {f : Nat → Bool} {x : Int32} (h : cs_X n sp f x) (hn : f n = false ∨ sp n ≤ x) : cs_X (n + 1) sp f x := by
  obtain ⟨h1, h2, h3⟩ := h
  refine ⟨h1, fun b hb hf => ?_, ?_⟩
  · rcases Nat.lt_or_ge b n with q | q
    · exact h2 b q hf
    · have : b = n := by omega
      subst this
      rcases hn with q | q
      · exact absurd (q.symm.trans hf) (by decide)
      · exact q
  · rcases h3 with q | ⟨b, q1, q2⟩
    · exact Or.inl q
    · exact Or.inr ⟨b, by omega, q2⟩
theorem cs_X_take {n : Nat} {sp : Nat → Int32} {f : Nat → Bool} {x : Int32} (h : cs_X n sp f x) (hf : f n = true) (hs : x < sp n) : cs_X (n + 1) sp f (sp n) := by
  obtain ⟨h1, h2, h3⟩ := h
  refine ⟨?_, fun b hb hf => ?_, Or.inr ⟨n, by omega, hf, rfl⟩⟩
  · rw [cs_leT] at h1 ⊢
    rw [cs_ltT] at hs
    omega
  · rcases Nat.lt_or_ge b n with q | q
    · have := h2 b q hf
      rw [cs_leT] at this ⊢
      rw [cs_ltT] at hs
      omega
    · have : b = n := by omega
      subst this
      rw [cs_leT]
      exact Int.le_refl _
theorem cs_X_uniq {n : Nat} {sp : Nat → Int32} {f : Nat → Bool} {x y : Int32} (h : cs_X n sp f x) (h' : cs_X n sp f y) : x = y := by
  obtain ⟨h1, h2, h3⟩ := h
  obtain ⟨g1, g2, g3⟩ := h'
  have a : x ≤ y := by
    rcases h3 with q | ⟨b, q1, q2, q3⟩
    · rw [q]; exact g1
    · rw [← q3]; exact g2 b q1 q2
  have b : y ≤ x := by
    rcases g3 with q | ⟨b, q1, q2, q3⟩
    · rw [q]; exact h1
    · rw [← q3]; exact h2 b q1 q2
  rw [cs_leT] at a b
  rw [cs_eqT]
  omega
theorem cs_X_congr {n : Nat} {sp : Nat → Int32} {f g : Nat → Bool} {x : Int32} (h : cs_X n sp f x) (hg : ∀ b, b < n → g b = f b) : cs_X n sp g x := by
  obtain ⟨h1, h2, h3⟩ := h
  refine ⟨h1, fun b hb hf => h2 b hb (by rw [← hg b hb]; exact hf), ?_⟩
  rcases h3 with q | ⟨b, q1, q2, q3⟩
  · exact Or.inl q
  · exact Or.inr ⟨b, q1, by rw [hg b q1]; exact q2, q3⟩
end
section
set_option maxHeartbeats 4000000 in
set_option maxRecDepth 100000 in
theorem cm_value_1 (l : Launch) (D : va_G) {ad : Nat → Nat} {cI cZ : ClassId} {n : Nat} {ky : Nat → Nat} {vl : Nat → Int32} {sp : Nat → Int32} {nd : Nat → Bool} {cm : Nat → Bool} {hs : Nat → Bool} {pl : Nat → Nat} {sh : Nat → Bool} {p0 : Int32} (h : cs_nv n p0 = true) : cs_MR l yX1_value (ws_ yX1_value cX1_value 2 (some .int)) ({ frames := 3, cells := 0, slots := 0, locals := 71 }) D vwCl (cs_wM ad cI cZ n ky vl sp nd cm hs pl sh) (cs_tM cI cZ) [.ref (ad 0), .int p0] (nI 0) := by
  intro sz
  refine Met.ofW (cc := cX1_value) (maxL := 2) (ret := (some .int)) (by decide) rfl ?_
  intro p e s m args below meth c s₁ B hml hv9
  obtain ⟨rfl, hsz, hP, hK⟩ := hv9
  have hx := B.exec
  have hb := B.bytes
  have hr := B.returns
  have hts := atoms_spec (ws := (ws_ yX1_value cX1_value 2 (some .int))) B.pre
  have hts : ∀ w ∈ lw_all, w.before _ s = true := fun w h => hts w (List.mem_cons_of_mem _ h)
  have hown : s.vm.findClass RX1 = some m.cls := findClass_of_methodNamed B.named
  have hlocks := B.notSynchronized
  subst hsz
  generalize hAe : va_A [] s.heap.size = A
  have hA : ∀ q : Nat, s.heap.size ≤ q → A q := fun q h => by rw [← hAe]; exact Or.inr h
  have hS : va_S A s.heap s.heap [] := va_S.rf
  have hP : va_P D vwCl (cs_wM ad cI cZ n ky vl sp nd cm hs pl sh) s.heap := hP
  have hl := lv_entry ([.ref (ad 0), .int p0]) (n := 2) (Nat.le_of_ble_eq_true rfl)
  rw [lg_entry_eq]
  generalize (lg_sl ([.ref (ad 0), .int p0]) ++ List.replicate (2 - (lg_sl ([.ref (ad 0), .int p0])).length) Slot.unset).toArray = ls at hl ⊢
  have hl : lv_has ls 2 [(0, .ref (ad 0)), (1, .int p0)] := hl
  refine lv_aload_n hx hb dX1_value_0 rfl (lv_at hl 0 rfl) ?_
  refine lv_iload_n hx hb dX1_value_1 rfl (lv_at hl 1 rfl) ?_
  refine cs_callRV (C := RX1) (As := [.int p0]) (rest := []) ⟨hx, hb, hml, hown, hts⟩ (cs_isVersion_t l D h) (cwV 1 hts (lw_V q227 q229 qs10 q13 q230) rfl rfl rfl (by decide +kernel) ⟨Nat.le_of_ble_eq_true rfl, Nat.le_of_ble_eq_true rfl⟩) (va_recv hK hP (ci := 1) (q0 := 0) rfl rfl) hP hK hP hS hA rfl hl.1 rfl (Nat.le_of_ble_eq_true rfl) dX1_value_2 ⟨Nat.zero_le _, Nat.zero_le _⟩ (fun H locs hP hS => ?_)
  refine cs_zeq (tgt := 17) hx hb dX1_value_5 (by decide) (fun h9 => ?_) (fun h9 => absurd h9 (by decide))
  refine lv_iconst (v := nI 0) hx hb dX1_value_17 (by decide) ?_
  exact W.iret (v := (nI 0)) hx hb hr (fun t ht hW => ⟨⟨(nI 0), (), rfl, rfl, trivial⟩, hS.F ht⟩) hS.2.2 dX1_value_18

set_option maxHeartbeats 4000000 in
set_option maxRecDepth 100000 in
theorem cm_value_2 (l : Launch) (D : va_G) {ad : Nat → Nat} {cI cZ : ClassId} {n : Nat} {ky : Nat → Nat} {vl : Nat → Int32} {sp : Nat → Int32} {nd : Nat → Bool} {cm : Nat → Bool} {hs : Nat → Bool} {pl : Nat → Nat} {sh : Nat → Bool} (v : Nat) (hv : v < n) (hn : n ≤ 40) : cs_MR l yX1_value (ws_ yX1_value cX1_value 2 (some .int)) ({ frames := 3, cells := 0, slots := 0, locals := 71 }) D vwCl (cs_wM ad cI cZ n ky vl sp nd cm hs pl sh) (cs_tM cI cZ) [.ref (ad 0), .int (nI v)] (vl v) := by
  intro sz
  refine Met.ofW (cc := cX1_value) (maxL := 2) (ret := (some .int)) (by decide) rfl ?_
  intro p e s m args below meth c s₁ B hml hv9
  obtain ⟨rfl, hsz, hP, hK⟩ := hv9
  have hx := B.exec
  have hb := B.bytes
  have hr := B.returns
  have hts := atoms_spec (ws := (ws_ yX1_value cX1_value 2 (some .int))) B.pre
  have hts : ∀ w ∈ lw_all, w.before _ s = true := fun w h => hts w (List.mem_cons_of_mem _ h)
  have hown : s.vm.findClass RX1 = some m.cls := findClass_of_methodNamed B.named
  have hlocks := B.notSynchronized
  subst hsz
  generalize hAe : va_A [] s.heap.size = A
  have hA : ∀ q : Nat, s.heap.size ≤ q → A q := fun q h => by rw [← hAe]; exact Or.inr h
  have hS : va_S A s.heap s.heap [] := va_S.rf
  have hP : va_P D vwCl (cs_wM ad cI cZ n ky vl sp nd cm hs pl sh) s.heap := hP
  have hl := lv_entry ([.ref (ad 0), .int (nI v)]) (n := 2) (Nat.le_of_ble_eq_true rfl)
  rw [lg_entry_eq]
  generalize (lg_sl ([.ref (ad 0), .int (nI v)]) ++ List.replicate (2 - (lg_sl ([.ref (ad 0), .int (nI v)])).length) Slot.unset).toArray = ls at hl ⊢
  have hl : lv_has ls 2 [(0, .ref (ad 0)), (1, .int (nI v))] := hl
  refine lv_aload_n hx hb dX1_value_0 rfl (lv_at hl 0 rfl) ?_
  refine lv_iload_n hx hb dX1_value_1 rfl (lv_at hl 1 rfl) ?_
  refine cs_callRV (C := RX1) (As := [.int (nI v)]) (rest := []) ⟨hx, hb, hml, hown, hts⟩ (cs_isVersion_k l D hv hn) (cwV 1 hts (lw_V q227 q229 qs10 q13 q230) rfl rfl rfl (by decide +kernel) ⟨Nat.le_of_ble_eq_true rfl, Nat.le_of_ble_eq_true rfl⟩) (va_recv hK hP (ci := 1) (q0 := 0) rfl rfl) hP hK hP hS hA rfl hl.1 rfl (Nat.le_of_ble_eq_true rfl) dX1_value_2 ⟨Nat.zero_le _, Nat.zero_le _⟩ (fun H locs hP hS => ?_)
  refine cs_zeq (tgt := 17) hx hb dX1_value_5 (by decide) (fun h9 => absurd h9 (by decide)) (fun h9 => ?_)
  refine lv_aload_n hx hb dX1_value_8 rfl (lv_at hl 0 rfl) ?_
  refine va_get (D := D) (ci := 1) (v := .ref (ad 2)) (C := RX1) (T := TX1) (N := 9) hx hb hts in_X1 hown hK hP 0 rfl rfl 2 (by decide) (hts _ q164) (fun _ h9 => h9) rfl dX1_value_9 ?_
  refine lv_iload_n hx hb dX1_value_12 rfl (lv_at hl 1 rfl) ?_
  refine cs_iald hx hb hK hP 2 0 rfl rfl (k := v) (by omega) (by decide) dX1_value_13 ?_
  refine lv_goto (tgt := 18) hx hb dX1_value_14 (by decide) ?_
  exact W.iret (v := (vl v)) hx hb hr (fun t ht hW => ⟨⟨(vl v), (), rfl, rfl, trivial⟩, hS.F ht⟩) hS.2.2 dX1_value_18

set_option maxHeartbeats 4000000 in
set_option maxRecDepth 100000 in
theorem cm_stamp_1 (l : Launch) (D : va_G) {ad : Nat → Nat} {cI cZ : ClassId} {n : Nat} {ky : Nat → Nat} {vl : Nat → Int32} {sp : Nat → Int32} {nd : Nat → Bool} {cm : Nat → Bool} {hs : Nat → Bool} {pl : Nat → Nat} {sh : Nat → Bool} {p0 : Int32} (h : cs_nv n p0 = true) : cs_MR l yX1_stamp (ws_ yX1_stamp cX1_stamp 2 (some .int)) ({ frames := 3, cells := 0, slots := 0, locals := 71 }) D vwCl (cs_wM ad cI cZ n ky vl sp nd cm hs pl sh) (cs_tM cI cZ) [.ref (ad 0), .int p0] (-5) := by
  intro sz
  refine Met.ofW (cc := cX1_stamp) (maxL := 2) (ret := (some .int)) (by decide) rfl ?_
  intro p e s m args below meth c s₁ B hml hv9
  obtain ⟨rfl, hsz, hP, hK⟩ := hv9
  have hx := B.exec
  have hb := B.bytes
  have hr := B.returns
  have hts := atoms_spec (ws := (ws_ yX1_stamp cX1_stamp 2 (some .int))) B.pre
  have hts : ∀ w ∈ lw_all, w.before _ s = true := fun w h => hts w (List.mem_cons_of_mem _ h)
  have hown : s.vm.findClass RX1 = some m.cls := findClass_of_methodNamed B.named
  have hlocks := B.notSynchronized
  subst hsz
  generalize hAe : va_A [] s.heap.size = A
  have hA : ∀ q : Nat, s.heap.size ≤ q → A q := fun q h => by rw [← hAe]; exact Or.inr h
  have hS : va_S A s.heap s.heap [] := va_S.rf
  have hP : va_P D vwCl (cs_wM ad cI cZ n ky vl sp nd cm hs pl sh) s.heap := hP
  have hl := lv_entry ([.ref (ad 0), .int p0]) (n := 2) (Nat.le_of_ble_eq_true rfl)
  rw [lg_entry_eq]
  generalize (lg_sl ([.ref (ad 0), .int p0]) ++ List.replicate (2 - (lg_sl ([.ref (ad 0), .int p0])).length) Slot.unset).toArray = ls at hl ⊢
  have hl : lv_has ls 2 [(0, .ref (ad 0)), (1, .int p0)] := hl
  refine lv_aload_n hx hb dX1_stamp_0 rfl (lv_at hl 0 rfl) ?_
  refine lv_iload_n hx hb dX1_stamp_1 rfl (lv_at hl 1 rfl) ?_
  refine cs_callRV (C := RX1) (As := [.int p0]) (rest := []) ⟨hx, hb, hml, hown, hts⟩ (cs_isVersion_t l D h) (cwV 1 hts (lw_V q227 q229 qs10 q13 q230) rfl rfl rfl (by decide +kernel) ⟨Nat.le_of_ble_eq_true rfl, Nat.le_of_ble_eq_true rfl⟩) (va_recv hK hP (ci := 1) (q0 := 0) rfl rfl) hP hK hP hS hA rfl hl.1 rfl (Nat.le_of_ble_eq_true rfl) dX1_stamp_2 ⟨Nat.zero_le _, Nat.zero_le _⟩ (fun H locs hP hS => ?_)
  refine cs_zeq (tgt := 17) hx hb dX1_stamp_5 (by decide) (fun h9 => ?_) (fun h9 => absurd h9 (by decide))
  refine lv_bipush (v := -5) hx hb dX1_stamp_17 (by decide) ?_
  exact W.iret (v := (-5)) hx hb hr (fun t ht hW => ⟨⟨(-5), (), rfl, rfl, trivial⟩, hS.F ht⟩) hS.2.2 dX1_stamp_19

set_option maxHeartbeats 4000000 in
set_option maxRecDepth 100000 in
theorem cm_stamp_2 (l : Launch) (D : va_G) {ad : Nat → Nat} {cI cZ : ClassId} {n : Nat} {ky : Nat → Nat} {vl : Nat → Int32} {sp : Nat → Int32} {nd : Nat → Bool} {cm : Nat → Bool} {hs : Nat → Bool} {pl : Nat → Nat} {sh : Nat → Bool} (v : Nat) (hv : v < n) (hn : n ≤ 40) : cs_MR l yX1_stamp (ws_ yX1_stamp cX1_stamp 2 (some .int)) ({ frames := 3, cells := 0, slots := 0, locals := 71 }) D vwCl (cs_wM ad cI cZ n ky vl sp nd cm hs pl sh) (cs_tM cI cZ) [.ref (ad 0), .int (nI v)] (sp v) := by
  intro sz
  refine Met.ofW (cc := cX1_stamp) (maxL := 2) (ret := (some .int)) (by decide) rfl ?_
  intro p e s m args below meth c s₁ B hml hv9
  obtain ⟨rfl, hsz, hP, hK⟩ := hv9
  have hx := B.exec
  have hb := B.bytes
  have hr := B.returns
  have hts := atoms_spec (ws := (ws_ yX1_stamp cX1_stamp 2 (some .int))) B.pre
  have hts : ∀ w ∈ lw_all, w.before _ s = true := fun w h => hts w (List.mem_cons_of_mem _ h)
  have hown : s.vm.findClass RX1 = some m.cls := findClass_of_methodNamed B.named
  have hlocks := B.notSynchronized
  subst hsz
  generalize hAe : va_A [] s.heap.size = A
  have hA : ∀ q : Nat, s.heap.size ≤ q → A q := fun q h => by rw [← hAe]; exact Or.inr h
  have hS : va_S A s.heap s.heap [] := va_S.rf
  have hP : va_P D vwCl (cs_wM ad cI cZ n ky vl sp nd cm hs pl sh) s.heap := hP
  have hl := lv_entry ([.ref (ad 0), .int (nI v)]) (n := 2) (Nat.le_of_ble_eq_true rfl)
  rw [lg_entry_eq]
  generalize (lg_sl ([.ref (ad 0), .int (nI v)]) ++ List.replicate (2 - (lg_sl ([.ref (ad 0), .int (nI v)])).length) Slot.unset).toArray = ls at hl ⊢
  have hl : lv_has ls 2 [(0, .ref (ad 0)), (1, .int (nI v))] := hl
  refine lv_aload_n hx hb dX1_stamp_0 rfl (lv_at hl 0 rfl) ?_
  refine lv_iload_n hx hb dX1_stamp_1 rfl (lv_at hl 1 rfl) ?_
  refine cs_callRV (C := RX1) (As := [.int (nI v)]) (rest := []) ⟨hx, hb, hml, hown, hts⟩ (cs_isVersion_k l D hv hn) (cwV 1 hts (lw_V q227 q229 qs10 q13 q230) rfl rfl rfl (by decide +kernel) ⟨Nat.le_of_ble_eq_true rfl, Nat.le_of_ble_eq_true rfl⟩) (va_recv hK hP (ci := 1) (q0 := 0) rfl rfl) hP hK hP hS hA rfl hl.1 rfl (Nat.le_of_ble_eq_true rfl) dX1_stamp_2 ⟨Nat.zero_le _, Nat.zero_le _⟩ (fun H locs hP hS => ?_)
  refine cs_zeq (tgt := 17) hx hb dX1_stamp_5 (by decide) (fun h9 => absurd h9 (by decide)) (fun h9 => ?_)
  refine lv_aload_n hx hb dX1_stamp_8 rfl (lv_at hl 0 rfl) ?_
  refine va_get (D := D) (ci := 1) (v := .ref (ad 3)) (C := RX1) (T := TX1) (N := 9) hx hb hts in_X1 hown hK hP 0 rfl rfl 3 (by decide) (hts _ q165) (fun _ h9 => h9) rfl dX1_stamp_9 ?_
  refine lv_iload_n hx hb dX1_stamp_12 rfl (lv_at hl 1 rfl) ?_
  refine cs_iald hx hb hK hP 3 0 rfl rfl (k := v) (by omega) (by decide) dX1_stamp_13 ?_
  refine lv_goto (tgt := 19) hx hb dX1_stamp_14 (by decide) ?_
  exact W.iret (v := (sp v)) hx hb hr (fun t ht hW => ⟨⟨(sp v), (), rfl, rfl, trivial⟩, hS.F ht⟩) hS.2.2 dX1_stamp_19

set_option maxHeartbeats 4000000 in
set_option maxRecDepth 100000 in
theorem cm_depends_1 (l : Launch) (D : va_G) {ad : Nat → Nat} {cI cZ : ClassId} {n : Nat} {ky : Nat → Nat} {vl : Nat → Int32} {sp : Nat → Int32} {nd : Nat → Bool} {cm : Nat → Bool} {hs : Nat → Bool} {pl : Nat → Nat} {sh : Nat → Bool} {p0 p1 : Int32} (h : cs_nv n p0 = true) : cs_MR l yX1_depends (ws_ yX1_depends cX1_depends 3 (some .boolean)) ({ frames := 3, cells := 0, slots := 0, locals := 71 }) D vwCl (cs_wM ad cI cZ n ky vl sp nd cm hs pl sh) (cs_tM cI cZ) [.ref (ad 0), .int p0, .int p1] (cs_b false) := by
  intro sz
  refine Met.ofW (cc := cX1_depends) (maxL := 3) (ret := (some .boolean)) (by decide) rfl ?_
  intro p e s m args below meth c s₁ B hml hv9
  obtain ⟨rfl, hsz, hP, hK⟩ := hv9
  have hx := B.exec
  have hb := B.bytes
  have hr := B.returns
  have hts := atoms_spec (ws := (ws_ yX1_depends cX1_depends 3 (some .boolean))) B.pre
  have hts : ∀ w ∈ lw_all, w.before _ s = true := fun w h => hts w (List.mem_cons_of_mem _ h)
  have hown : s.vm.findClass RX1 = some m.cls := findClass_of_methodNamed B.named
  have hlocks := B.notSynchronized
  subst hsz
  generalize hAe : va_A [] s.heap.size = A
  have hA : ∀ q : Nat, s.heap.size ≤ q → A q := fun q h => by rw [← hAe]; exact Or.inr h
  have hS : va_S A s.heap s.heap [] := va_S.rf
  have hP : va_P D vwCl (cs_wM ad cI cZ n ky vl sp nd cm hs pl sh) s.heap := hP
  have hl := lv_entry ([.ref (ad 0), .int p0, .int p1]) (n := 3) (Nat.le_of_ble_eq_true rfl)
  rw [lg_entry_eq]
  generalize (lg_sl ([.ref (ad 0), .int p0, .int p1]) ++ List.replicate (3 - (lg_sl ([.ref (ad 0), .int p0, .int p1])).length) Slot.unset).toArray = ls at hl ⊢
  have hl : lv_has ls 3 [(0, .ref (ad 0)), (1, .int p0), (2, .int p1)] := hl
  refine lv_aload_n hx hb dX1_depends_0 rfl (lv_at hl 0 rfl) ?_
  refine lv_iload_n hx hb dX1_depends_1 rfl (lv_at hl 1 rfl) ?_
  refine cs_callRV (C := RX1) (As := [.int p0]) (rest := []) ⟨hx, hb, hml, hown, hts⟩ (cs_isVersion_t l D h) (cwV 1 hts (lw_V q227 q229 qs10 q13 q230) rfl rfl rfl (by decide +kernel) ⟨Nat.le_of_ble_eq_true rfl, Nat.le_of_ble_eq_true rfl⟩) (va_recv hK hP (ci := 1) (q0 := 0) rfl rfl) hP hK hP hS hA rfl hl.1 rfl (Nat.le_of_ble_eq_true rfl) dX1_depends_2 ⟨Nat.zero_le _, Nat.zero_le _⟩ (fun H locs hP hS => ?_)
  refine cs_zeq (tgt := 39) hx hb dX1_depends_5 (by decide) (fun h9 => ?_) (fun h9 => absurd h9 (by decide))
  refine lv_iconst (v := cs_b false) hx hb dX1_depends_39 (by decide) ?_
  exact W.zret (v := (cs_b false)) hx hb hr (cs_nz _) (fun t ht hW => ⟨⟨(cs_b false), (), rfl, rfl, trivial⟩, hS.F ht⟩) hS.2.2 dX1_depends_40

set_option maxHeartbeats 4000000 in
set_option maxRecDepth 100000 in
theorem cm_depends_2 (l : Launch) (D : va_G) {ad : Nat → Nat} {cI cZ : ClassId} {n : Nat} {ky : Nat → Nat} {vl : Nat → Int32} {sp : Nat → Int32} {nd : Nat → Bool} {cm : Nat → Bool} {hs : Nat → Bool} {pl : Nat → Nat} {sh : Nat → Bool} (v : Nat) {p1 : Int32} (hv : v < n) (hn : n ≤ 40) (h : cs_nv n p1 = true) : cs_MR l yX1_depends (ws_ yX1_depends cX1_depends 3 (some .boolean)) ({ frames := 3, cells := 0, slots := 0, locals := 71 }) D vwCl (cs_wM ad cI cZ n ky vl sp nd cm hs pl sh) (cs_tM cI cZ) [.ref (ad 0), .int (nI v), .int p1] (cs_b false) := by
  intro sz
  refine Met.ofW (cc := cX1_depends) (maxL := 3) (ret := (some .boolean)) (by decide) rfl ?_
  intro p e s m args below meth c s₁ B hml hv9
  obtain ⟨rfl, hsz, hP, hK⟩ := hv9
  have hx := B.exec
  have hb := B.bytes
  have hr := B.returns
  have hts := atoms_spec (ws := (ws_ yX1_depends cX1_depends 3 (some .boolean))) B.pre
  have hts : ∀ w ∈ lw_all, w.before _ s = true := fun w h => hts w (List.mem_cons_of_mem _ h)
  have hown : s.vm.findClass RX1 = some m.cls := findClass_of_methodNamed B.named
  have hlocks := B.notSynchronized
  subst hsz
  generalize hAe : va_A [] s.heap.size = A
  have hA : ∀ q : Nat, s.heap.size ≤ q → A q := fun q h => by rw [← hAe]; exact Or.inr h
  have hS : va_S A s.heap s.heap [] := va_S.rf
  have hP : va_P D vwCl (cs_wM ad cI cZ n ky vl sp nd cm hs pl sh) s.heap := hP
  have hl := lv_entry ([.ref (ad 0), .int (nI v), .int p1]) (n := 3) (Nat.le_of_ble_eq_true rfl)
  rw [lg_entry_eq]
  generalize (lg_sl ([.ref (ad 0), .int (nI v), .int p1]) ++ List.replicate (3 - (lg_sl ([.ref (ad 0), .int (nI v), .int p1])).length) Slot.unset).toArray = ls at hl ⊢
  have hl : lv_has ls 3 [(0, .ref (ad 0)), (1, .int (nI v)), (2, .int p1)] := hl
  refine lv_aload_n hx hb dX1_depends_0 rfl (lv_at hl 0 rfl) ?_
  refine lv_iload_n hx hb dX1_depends_1 rfl (lv_at hl 1 rfl) ?_
  refine cs_callRV (C := RX1) (As := [.int (nI v)]) (rest := []) ⟨hx, hb, hml, hown, hts⟩ (cs_isVersion_k l D hv hn) (cwV 1 hts (lw_V q227 q229 qs10 q13 q230) rfl rfl rfl (by decide +kernel) ⟨Nat.le_of_ble_eq_true rfl, Nat.le_of_ble_eq_true rfl⟩) (va_recv hK hP (ci := 1) (q0 := 0) rfl rfl) hP hK hP hS hA rfl hl.1 rfl (Nat.le_of_ble_eq_true rfl) dX1_depends_2 ⟨Nat.zero_le _, Nat.zero_le _⟩ (fun H locs hP hS => ?_)
  refine cs_zeq (tgt := 39) hx hb dX1_depends_5 (by decide) (fun h9 => absurd h9 (by decide)) (fun h9 => ?_)
  refine lv_aload_n hx hb dX1_depends_8 rfl (lv_at hl 0 rfl) ?_
  refine lv_iload_n hx hb dX1_depends_9 rfl (lv_at hl 2 rfl) ?_
  refine cs_callRV (C := RX1) (As := [.int p1]) (rest := []) ⟨hx, hb, hml, hown, hts⟩ (cs_isVersion_t l D h) (cwV 1 hts (lw_V q227 q229 qs10 q13 q230) rfl rfl rfl (by decide +kernel) ⟨Nat.le_of_ble_eq_true rfl, Nat.le_of_ble_eq_true rfl⟩) (va_recv hK hP (ci := 1) (q0 := 0) rfl rfl) hP hK hP hS hA rfl hl.1 rfl (Nat.le_of_ble_eq_true rfl) dX1_depends_10 ⟨Nat.zero_le _, Nat.zero_le _⟩ (fun H locs hP hS => ?_)
  refine cs_zeq (tgt := 39) hx hb dX1_depends_13 (by decide) (fun h9 => ?_) (fun h9 => absurd h9 (by decide))
  refine lv_iconst (v := cs_b false) hx hb dX1_depends_39 (by decide) ?_
  exact W.zret (v := (cs_b false)) hx hb hr (cs_nz _) (fun t ht hW => ⟨⟨(cs_b false), (), rfl, rfl, trivial⟩, hS.F ht⟩) hS.2.2 dX1_depends_40

set_option maxHeartbeats 4000000 in
set_option maxRecDepth 100000 in
theorem cm_depends_3 (l : Launch) (D : va_G) {ad : Nat → Nat} {cI cZ : ClassId} {n : Nat} {ky : Nat → Nat} {vl : Nat → Int32} {sp : Nat → Int32} {nd : Nat → Bool} {cm : Nat → Bool} {hs : Nat → Bool} {pl : Nat → Nat} {sh : Nat → Bool} (v z : Nat) (hv : v < n) (hn : n ≤ 40) (hz : z < n) : cs_MR l yX1_depends (ws_ yX1_depends cX1_depends 3 (some .boolean)) ({ frames := 3, cells := 0, slots := 0, locals := 71 }) D vwCl (cs_wM ad cI cZ n ky vl sp nd cm hs pl sh) (cs_tM cI cZ) [.ref (ad 0), .int (nI v), .int (nI z)] (cs_b (decide (z < v) && nd (v * 40 + z))) := by
  intro sz
  refine Met.ofW (cc := cX1_depends) (maxL := 3) (ret := (some .boolean)) (by decide) rfl ?_
  intro p e s m args below meth c s₁ B hml hv9
  obtain ⟨rfl, hsz, hP, hK⟩ := hv9
  have hx := B.exec
  have hb := B.bytes
  have hr := B.returns
  have hts := atoms_spec (ws := (ws_ yX1_depends cX1_depends 3 (some .boolean))) B.pre
  have hts : ∀ w ∈ lw_all, w.before _ s = true := fun w h => hts w (List.mem_cons_of_mem _ h)
  have hown : s.vm.findClass RX1 = some m.cls := findClass_of_methodNamed B.named
  have hlocks := B.notSynchronized
  subst hsz
  generalize hAe : va_A [] s.heap.size = A
  have hA : ∀ q : Nat, s.heap.size ≤ q → A q := fun q h => by rw [← hAe]; exact Or.inr h
  have hS : va_S A s.heap s.heap [] := va_S.rf
  have hP : va_P D vwCl (cs_wM ad cI cZ n ky vl sp nd cm hs pl sh) s.heap := hP
  have hl := lv_entry ([.ref (ad 0), .int (nI v), .int (nI z)]) (n := 3) (Nat.le_of_ble_eq_true rfl)
  rw [lg_entry_eq]
  generalize (lg_sl ([.ref (ad 0), .int (nI v), .int (nI z)]) ++ List.replicate (3 - (lg_sl ([.ref (ad 0), .int (nI v), .int (nI z)])).length) Slot.unset).toArray = ls at hl ⊢
  have hl : lv_has ls 3 [(0, .ref (ad 0)), (1, .int (nI v)), (2, .int (nI z))] := hl
  refine lv_aload_n hx hb dX1_depends_0 rfl (lv_at hl 0 rfl) ?_
  refine lv_iload_n hx hb dX1_depends_1 rfl (lv_at hl 1 rfl) ?_
  refine cs_callRV (C := RX1) (As := [.int (nI v)]) (rest := []) ⟨hx, hb, hml, hown, hts⟩ (cs_isVersion_k l D hv hn) (cwV 1 hts (lw_V q227 q229 qs10 q13 q230) rfl rfl rfl (by decide +kernel) ⟨Nat.le_of_ble_eq_true rfl, Nat.le_of_ble_eq_true rfl⟩) (va_recv hK hP (ci := 1) (q0 := 0) rfl rfl) hP hK hP hS hA rfl hl.1 rfl (Nat.le_of_ble_eq_true rfl) dX1_depends_2 ⟨Nat.zero_le _, Nat.zero_le _⟩ (fun H locs hP hS => ?_)
  refine cs_zeq (tgt := 39) hx hb dX1_depends_5 (by decide) (fun h9 => absurd h9 (by decide)) (fun h9 => ?_)
  refine lv_aload_n hx hb dX1_depends_8 rfl (lv_at hl 0 rfl) ?_
  refine lv_iload_n hx hb dX1_depends_9 rfl (lv_at hl 2 rfl) ?_
  refine cs_callRV (C := RX1) (As := [.int (nI z)]) (rest := []) ⟨hx, hb, hml, hown, hts⟩ (cs_isVersion_k l D hz hn) (cwV 1 hts (lw_V q227 q229 qs10 q13 q230) rfl rfl rfl (by decide +kernel) ⟨Nat.le_of_ble_eq_true rfl, Nat.le_of_ble_eq_true rfl⟩) (va_recv hK hP (ci := 1) (q0 := 0) rfl rfl) hP hK hP hS hA rfl hl.1 rfl (Nat.le_of_ble_eq_true rfl) dX1_depends_10 ⟨Nat.zero_le _, Nat.zero_le _⟩ (fun H locs hP hS => ?_)
  refine cs_zeq (tgt := 39) hx hb dX1_depends_13 (by decide) (fun h9 => absurd h9 (by decide)) (fun h9 => ?_)
  refine lv_iload_n hx hb dX1_depends_16 rfl (lv_at hl 2 rfl) ?_
  refine lv_iload_n hx hb dX1_depends_17 rfl (lv_at hl 1 rfl) ?_
  refine cs_jge (tgt := 39) hx hb dX1_depends_18 (by decide) (by omega) (by omega) (fun h7 => ?_) (fun h7 => ?_)
  · refine lv_iconst (v := cs_b false) hx hb dX1_depends_39 (by decide) ?_
    exact W.zret (v := (cs_b false)) hx hb hr (cs_nz _) (fun t ht hW => ⟨⟨(cs_b false), (), rfl, by rw [decide_eq_false (by omega)]; rfl, trivial⟩, hS.F ht⟩) hS.2.2 dX1_depends_40
  · refine lv_aload_n hx hb dX1_depends_21 rfl (lv_at hl 0 rfl) ?_
    refine va_get (D := D) (ci := 1) (v := .ref (ad 4)) (C := RX1) (T := TX1) (N := 9) hx hb hts in_X1 hown hK hP 0 rfl rfl 4 (by decide) (hts _ q166) (fun _ h9 => h9) rfl dX1_depends_22 ?_
    refine lv_iload_n hx hb dX1_depends_25 rfl (lv_at hl 1 rfl) ?_
    refine lv_bipush (v := nI 40) hx hb dX1_depends_26 (by decide) ?_
    refine cs_imul hx hb dX1_depends_28 ?_
    refine lv_iload_n hx hb dX1_depends_29 rfl (lv_at hl 2 rfl) ?_
    refine cs_iadd hx hb dX1_depends_30 ?_
    refine cs_zald hx hb hK hP 4 1 rfl rfl (k := (v * 40) + z) (by omega) (by decide) dX1_depends_31 ?_
    refine cs_zeq (tgt := 39) hx hb dX1_depends_32 (by decide) (fun h6 => ?_) (fun h6 => ?_)
    · refine lv_iconst (v := cs_b false) hx hb dX1_depends_39 (by decide) ?_
      exact W.zret (v := (cs_b false)) hx hb hr (cs_nz _) (fun t ht hW => ⟨⟨(cs_b false), (), rfl, by rw [h6, Bool.and_false], trivial⟩, hS.F ht⟩) hS.2.2 dX1_depends_40
    · refine lv_iconst (v := cs_b true) hx hb dX1_depends_35 (by decide) ?_
      refine lv_goto (tgt := 40) hx hb dX1_depends_36 (by decide) ?_
      exact W.zret (v := (cs_b true)) hx hb hr (cs_nz _) (fun t ht hW => ⟨⟨(cs_b true), (), rfl, by rw [decide_eq_true h7, h6]; rfl, trivial⟩, hS.F ht⟩) hS.2.2 dX1_depends_40

set_option maxHeartbeats 4000000 in
set_option maxRecDepth 100000 in
theorem cm_seen_1 (l : Launch) (D : va_G) {ad : Nat → Nat} {cI cZ : ClassId} {n : Nat} {ky : Nat → Nat} {vl : Nat → Int32} {sp : Nat → Int32} {nd : Nat → Bool} {cm : Nat → Bool} {hs : Nat → Bool} {pl : Nat → Nat} {sh : Nat → Bool} {p0 : Int32} (h : cs_bad p0 = true) : cs_MR l yX1_seen (ws_ yX1_seen cX1_seen 4 (some .int)) ({ frames := 3, cells := 0, slots := 0, locals := 71 }) D vwCl (cs_wM ad cI cZ n ky vl sp nd cm hs pl sh) (cs_tM cI cZ) [.ref (ad 0), .int p0] (-1) := by
  intro sz
  refine Met.ofW (cc := cX1_seen) (maxL := 4) (ret := (some .int)) (by decide) rfl ?_
  intro p e s m args below meth c s₁ B hml hv9
  obtain ⟨rfl, hsz, hP, hK⟩ := hv9
  have hx := B.exec
  have hb := B.bytes
  have hr := B.returns
  have hts := atoms_spec (ws := (ws_ yX1_seen cX1_seen 4 (some .int))) B.pre
  have hts : ∀ w ∈ lw_all, w.before _ s = true := fun w h => hts w (List.mem_cons_of_mem _ h)
  have hown : s.vm.findClass RX1 = some m.cls := findClass_of_methodNamed B.named
  have hlocks := B.notSynchronized
  subst hsz
  generalize hAe : va_A [] s.heap.size = A
  have hA : ∀ q : Nat, s.heap.size ≤ q → A q := fun q h => by rw [← hAe]; exact Or.inr h
  have hS : va_S A s.heap s.heap [] := va_S.rf
  have hP : va_P D vwCl (cs_wM ad cI cZ n ky vl sp nd cm hs pl sh) s.heap := hP
  have hl := lv_entry ([.ref (ad 0), .int p0]) (n := 4) (Nat.le_of_ble_eq_true rfl)
  rw [lg_entry_eq]
  generalize (lg_sl ([.ref (ad 0), .int p0]) ++ List.replicate (4 - (lg_sl ([.ref (ad 0), .int p0])).length) Slot.unset).toArray = ls at hl ⊢
  have hl : lv_has ls 4 [(0, .ref (ad 0)), (1, .int p0)] := hl
  refine lv_aload_n hx hb dX1_seen_0 rfl (lv_at hl 0 rfl) ?_
  refine lv_iload_n hx hb dX1_seen_1 rfl (lv_at hl 1 rfl) ?_
  refine cs_callRV (C := RX1) (As := [.int p0]) (rest := []) ⟨hx, hb, hml, hown, hts⟩ (cs_three_t l D h) (cwV 1 hts (lw_V q195 q197 qs6 q13 q198) rfl rfl rfl (by decide +kernel) ⟨Nat.le_of_ble_eq_true rfl, Nat.le_of_ble_eq_true rfl⟩) (va_recv hK hP (ci := 1) (q0 := 0) rfl rfl) cs_P0 hK hP hS hA rfl hl.1 rfl (Nat.le_of_ble_eq_true rfl) dX1_seen_2 ⟨Nat.zero_le _, Nat.zero_le _⟩ (fun H locs hP hS => ?_)
  refine cs_zne (tgt := 10) hx hb dX1_seen_5 (by decide) (fun h9 => absurd h9 (by decide)) (fun h9 => ?_)
  refine lv_iconst (v := -1) hx hb dX1_seen_8 (by decide) ?_
  exact W.iret (v := (-1)) hx hb hr (fun t ht hW => ⟨⟨(-1), (), rfl, rfl, trivial⟩, hS.F ht⟩) hS.2.2 dX1_seen_9

set_option maxHeartbeats 4000000 in
set_option maxRecDepth 100000 in
theorem cm_seen_loop {p : Program} {l : Launch} {e : Env} {R : Room} {s : State} {m : MethodId} {args : Array Value} {below : List Frame} {meth : Method} {c : Code} {Q : State → Prop} {D : va_G} {A : Nat → Prop} {H0 : Heap} (hx : p.tables.exec = Jvm.exec) (hb : c.code = cX1_seen) (hml : c.maxLocals = 4) (hown : s.vm.findClass RX1 = some m.cls) (hts : ∀ w ∈ lw_all, w.before args s = true) (hA : ∀ q : Nat, H0.size ≤ q → A q) (hR : 0 ≤ R.frames ∧ 0 ≤ R.locals) {ad : Nat → Nat} {cI cZ : ClassId} (hK : va_K D vwCl (cs_tM cI cZ) s) {H : Heap} {locs : List Loc} {n : Nat} {ky : Nat → Nat} {vl : Nat → Int32} {sp : Nat → Int32} {nd : Nat → Bool} {cm : Nat → Bool} {hs : Nat → Bool} {pl : Nat → Nat} {sh : Nat → Bool} (z : Nat) (hz : z < 3) (hn : n ≤ 40) (hP : va_P D vwCl (cs_wM ad cI cZ n ky vl sp nd cm hs pl sh) H) (hend : ∀ ls : Array Slot, lv_has ls 4 [(0, .ref (ad 0)), (1, .int (nI z)), (2, .int (nI (cs_n (fun v => hs (z * 40 + v)) n))), (3, .int (nI n))] → W p l e R s m args below meth c H locs 0 0 Q (F0 m 45 ls [])) :
    ∀ (j i : Nat), i + j = n →  ∀ ls : Array Slot, lv_has ls 4 [(0, .ref (ad 0)), (1, .int (nI z)), (2, .int (nI (cs_n (fun v => hs (z * 40 + v)) i))), (3, .int (nI i))] → W p l e R s m args below meth c H locs 0 0 Q (F0 m 14 ls []) := by
  intro j
  induction j with
  | zero =>
    intro i hi  ls hl
    refine lv_iload_n hx hb dX1_seen_14 rfl (lv_at hl 3 rfl) ?_
    refine lv_aload_n hx hb dX1_seen_15 rfl (lv_at hl 0 rfl) ?_
    refine va_get (D := D) (ci := 1) (v := .int (nI n)) (C := RX1) (T := TX1) (N := 9) hx hb hts in_X1 hown hK hP 0 rfl rfl 0 (by decide) (hts _ q162) (fun _ h9 => h9) rfl dX1_seen_16 ?_
    refine cs_jge (tgt := 45) hx hb dX1_seen_19 (by decide) (by omega) (by omega) (fun h => ?_) (fun h => absurd h (by omega))
    have hi : i = n := by omega
    subst hi
    exact hend ls hl
  | succ j ih =>
    intro i hi  ls hl
    refine lv_iload_n hx hb dX1_seen_14 rfl (lv_at hl 3 rfl) ?_
    refine lv_aload_n hx hb dX1_seen_15 rfl (lv_at hl 0 rfl) ?_
    refine va_get (D := D) (ci := 1) (v := .int (nI n)) (C := RX1) (T := TX1) (N := 9) hx hb hts in_X1 hown hK hP 0 rfl rfl 0 (by decide) (hts _ q162) (fun _ h9 => h9) rfl dX1_seen_16 ?_
    refine cs_jge (tgt := 45) hx hb dX1_seen_19 (by decide) (by omega) (by omega) (fun h => absurd h (by omega)) (fun h => ?_)
    refine lv_aload_n hx hb dX1_seen_22 rfl (lv_at hl 0 rfl) ?_
    refine va_get (D := D) (ci := 1) (v := .ref (ad 6)) (C := RX1) (T := TX1) (N := 9) hx hb hts in_X1 hown hK hP 0 rfl rfl 6 (by decide) (hts _ q168) (fun _ h9 => h9) rfl dX1_seen_23 ?_
    refine lv_iload_n hx hb dX1_seen_26 rfl (lv_at hl 1 rfl) ?_
    refine lv_bipush (v := nI 40) hx hb dX1_seen_27 (by decide) ?_
    refine cs_imul hx hb dX1_seen_29 ?_
    refine lv_iload_n hx hb dX1_seen_30 rfl (lv_at hl 3 rfl) ?_
    refine cs_iadd hx hb dX1_seen_31 ?_
    refine cs_zald hx hb hK hP 6 1 rfl rfl (k := (z * 40) + i) (by omega) (by decide) dX1_seen_32 ?_
    refine cs_zeq (tgt := 39) hx hb dX1_seen_33 (by decide) (fun h2 => ?_) (fun h2 => ?_)
    · have h7 : (fun v => hs (z * 40 + v)) i = false := h2
      refine lv_iinc (v := nI (i + 1)) (lv' := [(3, .int (nI (i + 1))), (0, .ref (ad 0)), (1, .int (nI z)), (2, .int (nI (cs_n (fun v => hs (z * 40 + v)) i)))]) hx hb dX1_seen_39 hl (k := 3) rfl (cs_inc _) (by decide) rfl (fun ls hl => ?_)
      refine lv_goto (tgt := 14) hx hb dX1_seen_42 (by decide) ?_
      exact ih (i + 1) (by omega) ls (by rw [cs_n_f (f := (fun v => hs (z * 40 + v))) h7]; exact lv_sub hl [1, 2, 3, 0] rfl)
    · have h7 : (fun v => hs (z * 40 + v)) i = true := h2
      refine lv_iinc (v := nI (cs_n (fun v => hs (z * 40 + v)) i + 1)) (lv' := [(2, .int (nI (cs_n (fun v => hs (z * 40 + v)) i + 1))), (0, .ref (ad 0)), (1, .int (nI z)), (3, .int (nI i))]) hx hb dX1_seen_36 hl (k := 2) rfl (cs_inc _) (by decide) rfl (fun ls hl => ?_)
      refine lv_iinc (v := nI (i + 1)) (lv' := [(3, .int (nI (i + 1))), (2, .int (nI (cs_n (fun v => hs (z * 40 + v)) i + 1))), (0, .ref (ad 0)), (1, .int (nI z))]) hx hb dX1_seen_39 hl (k := 3) rfl (cs_inc _) (by decide) rfl (fun ls hl => ?_)
      refine lv_goto (tgt := 14) hx hb dX1_seen_42 (by decide) ?_
      exact ih (i + 1) (by omega) ls (by rw [cs_n_t (f := (fun v => hs (z * 40 + v))) h7]; exact lv_sub hl [2, 3, 1, 0] rfl)

set_option maxHeartbeats 4000000 in
set_option maxRecDepth 100000 in
theorem cm_seen_2 (l : Launch) (D : va_G) {ad : Nat → Nat} {cI cZ : ClassId} {n : Nat} {ky : Nat → Nat} {vl : Nat → Int32} {sp : Nat → Int32} {nd : Nat → Bool} {cm : Nat → Bool} {hs : Nat → Bool} {pl : Nat → Nat} {sh : Nat → Bool} (z : Nat) (hz : z < 3) (hn : n ≤ 40) : cs_MR l yX1_seen (ws_ yX1_seen cX1_seen 4 (some .int)) ({ frames := 3, cells := 0, slots := 0, locals := 71 }) D vwCl (cs_wM ad cI cZ n ky vl sp nd cm hs pl sh) (cs_tM cI cZ) [.ref (ad 0), .int (nI z)] (nI (cs_n (fun v => hs (z * 40 + v)) n)) := by
  intro sz
  refine Met.ofW (cc := cX1_seen) (maxL := 4) (ret := (some .int)) (by decide) rfl ?_
  intro p e s m args below meth c s₁ B hml hv9
  obtain ⟨rfl, hsz, hP, hK⟩ := hv9
  have hx := B.exec
  have hb := B.bytes
  have hr := B.returns
  have hts := atoms_spec (ws := (ws_ yX1_seen cX1_seen 4 (some .int))) B.pre
  have hts : ∀ w ∈ lw_all, w.before _ s = true := fun w h => hts w (List.mem_cons_of_mem _ h)
  have hown : s.vm.findClass RX1 = some m.cls := findClass_of_methodNamed B.named
  have hlocks := B.notSynchronized
  subst hsz
  generalize hAe : va_A [] s.heap.size = A
  have hA : ∀ q : Nat, s.heap.size ≤ q → A q := fun q h => by rw [← hAe]; exact Or.inr h
  have hS : va_S A s.heap s.heap [] := va_S.rf
  have hP : va_P D vwCl (cs_wM ad cI cZ n ky vl sp nd cm hs pl sh) s.heap := hP
  have hl := lv_entry ([.ref (ad 0), .int (nI z)]) (n := 4) (Nat.le_of_ble_eq_true rfl)
  rw [lg_entry_eq]
  generalize (lg_sl ([.ref (ad 0), .int (nI z)]) ++ List.replicate (4 - (lg_sl ([.ref (ad 0), .int (nI z)])).length) Slot.unset).toArray = ls at hl ⊢
  have hl : lv_has ls 4 [(0, .ref (ad 0)), (1, .int (nI z))] := hl
  refine lv_aload_n hx hb dX1_seen_0 rfl (lv_at hl 0 rfl) ?_
  refine lv_iload_n hx hb dX1_seen_1 rfl (lv_at hl 1 rfl) ?_
  refine cs_callRV (C := RX1) (As := [.int (nI z)]) (rest := []) ⟨hx, hb, hml, hown, hts⟩ (cs_three_k l D hz) (cwV 1 hts (lw_V q195 q197 qs6 q13 q198) rfl rfl rfl (by decide +kernel) ⟨Nat.le_of_ble_eq_true rfl, Nat.le_of_ble_eq_true rfl⟩) (va_recv hK hP (ci := 1) (q0 := 0) rfl rfl) cs_P0 hK hP hS hA rfl hl.1 rfl (Nat.le_of_ble_eq_true rfl) dX1_seen_2 ⟨Nat.zero_le _, Nat.zero_le _⟩ (fun H locs hP hS => ?_)
  refine cs_zne (tgt := 10) hx hb dX1_seen_5 (by decide) (fun h9 => ?_) (fun h9 => absurd h9 (by decide))
  refine lv_iconst (v := nI 0) hx hb dX1_seen_10 (by decide) ?_
  refine lv_istore_n (lv' := [(2, .int (nI 0)), (0, .ref (ad 0)), (1, .int (nI z))]) hx hb dX1_seen_11 rfl hl (by decide) rfl (fun ls hl => ?_)
  refine lv_iconst (v := nI 0) hx hb dX1_seen_12 (by decide) ?_
  refine lv_istore_n (lv' := [(3, .int (nI 0)), (2, .int (nI 0)), (0, .ref (ad 0)), (1, .int (nI z))]) hx hb dX1_seen_13 rfl hl (by decide) rfl (fun ls hl => ?_)
  refine cm_seen_loop hx hb hml hown hts hA ⟨Nat.zero_le _, Nat.zero_le _⟩ hK z hz hn hP (fun ls hl => ?_) n 0 (by omega) ls (lv_sub hl [2, 3, 1, 0] rfl)
  refine lv_iload_n hx hb dX1_seen_45 rfl (lv_at hl 2 rfl) ?_
  exact W.iret (v := (nI (cs_n (fun v => hs (z * 40 + v)) n))) hx hb hr (fun t ht hW => ⟨⟨(nI (cs_n (fun v => hs (z * 40 + v)) n)), (), rfl, rfl, trivial⟩, hS.F ht⟩) hS.2.2 dX1_seen_46

set_option maxHeartbeats 4000000 in
set_option maxRecDepth 100000 in
theorem cm_visible_1 (l : Launch) (D : va_G) {ad : Nat → Nat} {cI cZ : ClassId} {n : Nat} {ky : Nat → Nat} {vl : Nat → Int32} {sp : Nat → Int32} {nd : Nat → Bool} {cm : Nat → Bool} {hs : Nat → Bool} {pl : Nat → Nat} {sh : Nat → Bool} {p0 p1 : Int32} (h : cs_nv n p0 = true) : cs_MR l yX1_visible (ws_ yX1_visible cX1_visible 3 (some .boolean)) ({ frames := 3, cells := 0, slots := 0, locals := 71 }) D vwCl (cs_wM ad cI cZ n ky vl sp nd cm hs pl sh) (cs_tM cI cZ) [.ref (ad 0), .int p0, .int p1] (cs_b false) := by
  intro sz
  refine Met.ofW (cc := cX1_visible) (maxL := 3) (ret := (some .boolean)) (by decide) rfl ?_
  intro p e s m args below meth c s₁ B hml hv9
  obtain ⟨rfl, hsz, hP, hK⟩ := hv9
  have hx := B.exec
  have hb := B.bytes
  have hr := B.returns
  have hts := atoms_spec (ws := (ws_ yX1_visible cX1_visible 3 (some .boolean))) B.pre
  have hts : ∀ w ∈ lw_all, w.before _ s = true := fun w h => hts w (List.mem_cons_of_mem _ h)
  have hown : s.vm.findClass RX1 = some m.cls := findClass_of_methodNamed B.named
  have hlocks := B.notSynchronized
  subst hsz
  generalize hAe : va_A [] s.heap.size = A
  have hA : ∀ q : Nat, s.heap.size ≤ q → A q := fun q h => by rw [← hAe]; exact Or.inr h
  have hS : va_S A s.heap s.heap [] := va_S.rf
  have hP : va_P D vwCl (cs_wM ad cI cZ n ky vl sp nd cm hs pl sh) s.heap := hP
  have hl := lv_entry ([.ref (ad 0), .int p0, .int p1]) (n := 3) (Nat.le_of_ble_eq_true rfl)
  rw [lg_entry_eq]
  generalize (lg_sl ([.ref (ad 0), .int p0, .int p1]) ++ List.replicate (3 - (lg_sl ([.ref (ad 0), .int p0, .int p1])).length) Slot.unset).toArray = ls at hl ⊢
  have hl : lv_has ls 3 [(0, .ref (ad 0)), (1, .int p0), (2, .int p1)] := hl
  refine lv_aload_n hx hb dX1_visible_0 rfl (lv_at hl 0 rfl) ?_
  refine lv_iload_n hx hb dX1_visible_1 rfl (lv_at hl 1 rfl) ?_
  refine cs_callRV (C := RX1) (As := [.int p0]) (rest := []) ⟨hx, hb, hml, hown, hts⟩ (cs_isVersion_t l D h) (cwV 1 hts (lw_V q227 q229 qs10 q13 q230) rfl rfl rfl (by decide +kernel) ⟨Nat.le_of_ble_eq_true rfl, Nat.le_of_ble_eq_true rfl⟩) (va_recv hK hP (ci := 1) (q0 := 0) rfl rfl) hP hK hP hS hA rfl hl.1 rfl (Nat.le_of_ble_eq_true rfl) dX1_visible_2 ⟨Nat.zero_le _, Nat.zero_le _⟩ (fun H locs hP hS => ?_)
  refine cs_zeq (tgt := 16) hx hb dX1_visible_5 (by decide) (fun h9 => ?_) (fun h9 => absurd h9 (by decide))
  refine lv_iconst (v := cs_b false) hx hb dX1_visible_16 (by decide) ?_
  exact W.zret (v := (cs_b false)) hx hb hr (cs_nz _) (fun t ht hW => ⟨⟨(cs_b false), (), rfl, rfl, trivial⟩, hS.F ht⟩) hS.2.2 dX1_visible_17

set_option maxHeartbeats 4000000 in
set_option maxRecDepth 100000 in
theorem cm_visible_2 (l : Launch) (D : va_G) {ad : Nat → Nat} {cI cZ : ClassId} {n : Nat} {ky : Nat → Nat} {vl : Nat → Int32} {sp : Nat → Int32} {nd : Nat → Bool} {cm : Nat → Bool} {hs : Nat → Bool} {pl : Nat → Nat} {sh : Nat → Bool} (v : Nat) {p1 : Int32} (hv : v < n) (hn : n ≤ 40) (h : cs_bad p1 = true) : cs_MR l yX1_visible (ws_ yX1_visible cX1_visible 3 (some .boolean)) ({ frames := 3, cells := 0, slots := 0, locals := 71 }) D vwCl (cs_wM ad cI cZ n ky vl sp nd cm hs pl sh) (cs_tM cI cZ) [.ref (ad 0), .int (nI v), .int p1] (cs_b false) := by
  intro sz
  refine Met.ofW (cc := cX1_visible) (maxL := 3) (ret := (some .boolean)) (by decide) rfl ?_
  intro p e s m args below meth c s₁ B hml hv9
  obtain ⟨rfl, hsz, hP, hK⟩ := hv9
  have hx := B.exec
  have hb := B.bytes
  have hr := B.returns
  have hts := atoms_spec (ws := (ws_ yX1_visible cX1_visible 3 (some .boolean))) B.pre
  have hts : ∀ w ∈ lw_all, w.before _ s = true := fun w h => hts w (List.mem_cons_of_mem _ h)
  have hown : s.vm.findClass RX1 = some m.cls := findClass_of_methodNamed B.named
  have hlocks := B.notSynchronized
  subst hsz
  generalize hAe : va_A [] s.heap.size = A
  have hA : ∀ q : Nat, s.heap.size ≤ q → A q := fun q h => by rw [← hAe]; exact Or.inr h
  have hS : va_S A s.heap s.heap [] := va_S.rf
  have hP : va_P D vwCl (cs_wM ad cI cZ n ky vl sp nd cm hs pl sh) s.heap := hP
  have hl := lv_entry ([.ref (ad 0), .int (nI v), .int p1]) (n := 3) (Nat.le_of_ble_eq_true rfl)
  rw [lg_entry_eq]
  generalize (lg_sl ([.ref (ad 0), .int (nI v), .int p1]) ++ List.replicate (3 - (lg_sl ([.ref (ad 0), .int (nI v), .int p1])).length) Slot.unset).toArray = ls at hl ⊢
  have hl : lv_has ls 3 [(0, .ref (ad 0)), (1, .int (nI v)), (2, .int p1)] := hl
  refine lv_aload_n hx hb dX1_visible_0 rfl (lv_at hl 0 rfl) ?_
  refine lv_iload_n hx hb dX1_visible_1 rfl (lv_at hl 1 rfl) ?_
  refine cs_callRV (C := RX1) (As := [.int (nI v)]) (rest := []) ⟨hx, hb, hml, hown, hts⟩ (cs_isVersion_k l D hv hn) (cwV 1 hts (lw_V q227 q229 qs10 q13 q230) rfl rfl rfl (by decide +kernel) ⟨Nat.le_of_ble_eq_true rfl, Nat.le_of_ble_eq_true rfl⟩) (va_recv hK hP (ci := 1) (q0 := 0) rfl rfl) hP hK hP hS hA rfl hl.1 rfl (Nat.le_of_ble_eq_true rfl) dX1_visible_2 ⟨Nat.zero_le _, Nat.zero_le _⟩ (fun H locs hP hS => ?_)
  refine cs_zeq (tgt := 16) hx hb dX1_visible_5 (by decide) (fun h9 => absurd h9 (by decide)) (fun h9 => ?_)
  refine lv_aload_n hx hb dX1_visible_8 rfl (lv_at hl 0 rfl) ?_
  refine lv_iload_n hx hb dX1_visible_9 rfl (lv_at hl 2 rfl) ?_
  refine cs_callRV (C := RX1) (As := [.int p1]) (rest := []) ⟨hx, hb, hml, hown, hts⟩ (cs_three_t l D h) (cwV 1 hts (lw_V q195 q197 qs6 q13 q198) rfl rfl rfl (by decide +kernel) ⟨Nat.le_of_ble_eq_true rfl, Nat.le_of_ble_eq_true rfl⟩) (va_recv hK hP (ci := 1) (q0 := 0) rfl rfl) cs_P0 hK hP hS hA rfl hl.1 rfl (Nat.le_of_ble_eq_true rfl) dX1_visible_10 ⟨Nat.zero_le _, Nat.zero_le _⟩ (fun H locs hP hS => ?_)
  refine cs_zne (tgt := 18) hx hb dX1_visible_13 (by decide) (fun h9 => absurd h9 (by decide)) (fun h9 => ?_)
  refine lv_iconst (v := cs_b false) hx hb dX1_visible_16 (by decide) ?_
  exact W.zret (v := (cs_b false)) hx hb hr (cs_nz _) (fun t ht hW => ⟨⟨(cs_b false), (), rfl, rfl, trivial⟩, hS.F ht⟩) hS.2.2 dX1_visible_17

set_option maxHeartbeats 4000000 in
set_option maxRecDepth 100000 in
theorem cm_visible_3 (l : Launch) (D : va_G) {ad : Nat → Nat} {cI cZ : ClassId} {n : Nat} {ky : Nat → Nat} {vl : Nat → Int32} {sp : Nat → Int32} {nd : Nat → Bool} {cm : Nat → Bool} {hs : Nat → Bool} {pl : Nat → Nat} {sh : Nat → Bool} (v : Nat) (hv : v < n) (z : Nat) (hz : z < 3) (hn : n ≤ 40) (V : Nat → Bool) (hV : ∀ v, v < n → (V v = true ↔ (cm (z * 40 + v) = true ∧ ∀ b, b < n → nd (v * 40 + b) = true → V b = true))) (hnd : ∀ v b, v < n → b < n → nd (v * 40 + b) = true → b < v) : cs_MW l yX1_visible (ws_ yX1_visible cX1_visible 3 (some .boolean)) ({ frames := 3, cells := 0, slots := 0, locals := 71 }) D vwCl (cs_wM ad cI cZ n ky vl sp nd cm hs pl sh) (cs_tM cI cZ) [.ref (ad 0), .int (nI v), .int (nI z)] (fun r w' => r = cs_b (V v) ∧ ∃ sh1 : Nat → Bool, w' = cs_wM ad cI cZ n ky vl sp nd cm hs pl sh1) := by
  intro sz
  refine Met.ofW (cc := cX1_visible) (maxL := 3) (ret := (some .boolean)) (by decide) rfl ?_
  intro p e s m args below meth c s₁ B hml hv9
  obtain ⟨rfl, hsz, hP, hK, hD0⟩ := hv9
  have hx := B.exec
  have hb := B.bytes
  have hr := B.returns
  have hts := atoms_spec (ws := (ws_ yX1_visible cX1_visible 3 (some .boolean))) B.pre
  have hts : ∀ w ∈ lw_all, w.before _ s = true := fun w h => hts w (List.mem_cons_of_mem _ h)
  have hown : s.vm.findClass RX1 = some m.cls := findClass_of_methodNamed B.named
  have hlocks := B.notSynchronized
  subst hsz
  have hD := hD0.self (sz := s.heap.size)
  generalize hAe : va_A (cs_wM ad cI cZ n ky vl sp nd cm hs pl sh) s.heap.size = A at hD ⊢
  have hA : ∀ q : Nat, s.heap.size ≤ q → A q := fun q h => by rw [← hAe]; exact Or.inr h
  have hS : va_S A s.heap s.heap [] := va_S.rf
  have hP : va_P D vwCl (cs_wM ad cI cZ n ky vl sp nd cm hs pl sh) s.heap := hP
  have hl := lv_entry ([.ref (ad 0), .int (nI v), .int (nI z)]) (n := 3) (Nat.le_of_ble_eq_true rfl)
  rw [lg_entry_eq]
  generalize (lg_sl ([.ref (ad 0), .int (nI v), .int (nI z)]) ++ List.replicate (3 - (lg_sl ([.ref (ad 0), .int (nI v), .int (nI z)])).length) Slot.unset).toArray = ls at hl ⊢
  have hl : lv_has ls 3 [(0, .ref (ad 0)), (1, .int (nI v)), (2, .int (nI z))] := hl
  refine lv_aload_n hx hb dX1_visible_0 rfl (lv_at hl 0 rfl) ?_
  refine lv_iload_n hx hb dX1_visible_1 rfl (lv_at hl 1 rfl) ?_
  refine cs_callRV (C := RX1) (As := [.int (nI v)]) (rest := []) ⟨hx, hb, hml, hown, hts⟩ (cs_isVersion_k l D hv hn) (cwV 1 hts (lw_V q227 q229 qs10 q13 q230) rfl rfl rfl (by decide +kernel) ⟨Nat.le_of_ble_eq_true rfl, Nat.le_of_ble_eq_true rfl⟩) (va_recv hK hP (ci := 1) (q0 := 0) rfl rfl) hP hK hP hS hA rfl hl.1 rfl (Nat.le_of_ble_eq_true rfl) dX1_visible_2 ⟨Nat.zero_le _, Nat.zero_le _⟩ (fun H locs hP hS => ?_)
  refine cs_zeq (tgt := 16) hx hb dX1_visible_5 (by decide) (fun h9 => absurd h9 (by decide)) (fun h9 => ?_)
  refine lv_aload_n hx hb dX1_visible_8 rfl (lv_at hl 0 rfl) ?_
  refine lv_iload_n hx hb dX1_visible_9 rfl (lv_at hl 2 rfl) ?_
  refine cs_callRV (C := RX1) (As := [.int (nI z)]) (rest := []) ⟨hx, hb, hml, hown, hts⟩ (cs_three_k l D hz) (cwV 1 hts (lw_V q195 q197 qs6 q13 q198) rfl rfl rfl (by decide +kernel) ⟨Nat.le_of_ble_eq_true rfl, Nat.le_of_ble_eq_true rfl⟩) (va_recv hK hP (ci := 1) (q0 := 0) rfl rfl) cs_P0 hK hP hS hA rfl hl.1 rfl (Nat.le_of_ble_eq_true rfl) dX1_visible_10 ⟨Nat.zero_le _, Nat.zero_le _⟩ (fun H locs hP hS => ?_)
  refine cs_zne (tgt := 18) hx hb dX1_visible_13 (by decide) (fun h9 => ?_) (fun h9 => absurd h9 (by decide))
  refine lv_aload_n hx hb dX1_visible_18 rfl (lv_at hl 0 rfl) ?_
  refine lv_iload_n hx hb dX1_visible_19 rfl (lv_at hl 2 rfl) ?_
  refine cs_callWV (C := RX1) (As := [.int (nI z)]) (rest := []) ⟨hx, hb, hml, hown, hts⟩ (cs_sweep l D z hz hn V hV hnd) (cwV 1 hts (lw_V q211 q213 qs8 q13 q214) rfl rfl rfl (by decide +kernel) ⟨Nat.le_of_ble_eq_true rfl, Nat.le_of_ble_eq_true rfl⟩) (va_recv hK hP (ci := 1) (q0 := 0) rfl rfl) hK hP hD hS hA rfl hl.1 rfl (Nat.le_of_ble_eq_true rfl) dX1_visible_20 ⟨Nat.zero_le _, Nat.zero_le _⟩ (fun r w' H locs hq hP hD hS => ?_)
  obtain ⟨rfl, sh1, h0, rfl⟩ := hq
  refine lv_pop hx hb dX1_visible_23 rfl ?_
  refine lv_aload_n hx hb dX1_visible_24 rfl (lv_at hl 0 rfl) ?_
  refine va_get (D := D) (ci := 1) (v := .ref (ad 8)) (C := RX1) (T := TX1) (N := 9) hx hb hts in_X1 hown hK hP 0 rfl rfl 8 (by decide) (hts _ q170) (fun _ h9 => h9) rfl dX1_visible_25 ?_
  refine lv_iload_n hx hb dX1_visible_28 rfl (lv_at hl 1 rfl) ?_
  refine cs_zald hx hb hK hP 8 1 rfl rfl (k := v) (by omega) (by decide) dX1_visible_29 ?_
  refine cs_ti (y := (cs_b (V v))) (by rw [h0 v hv]) ?_
  exact W.zret (v := (cs_b (V v))) hx hb hr (cs_nz _) (fun t ht hW => ⟨⟨(cs_b (V v)), cs_wM ad cI cZ n ky vl sp nd cm hs pl sh1, rfl, ⟨rfl, sh1, rfl⟩, by rw [ht]; exact hP, hD⟩, hS.F ht⟩) hS.2.2 dX1_visible_30

set_option maxHeartbeats 4000000 in
set_option maxRecDepth 100000 in
theorem cm_held_1 (l : Launch) (D : va_G) {ad : Nat → Nat} {cI cZ : ClassId} {n : Nat} {ky : Nat → Nat} {vl : Nat → Int32} {sp : Nat → Int32} {nd : Nat → Bool} {cm : Nat → Bool} {hs : Nat → Bool} {pl : Nat → Nat} {sh : Nat → Bool} {p0 : Int32} (h : cs_bad p0 = true) : cs_MR l yX1_held (ws_ yX1_held cX1_held 4 (some .int)) ({ frames := 3, cells := 0, slots := 0, locals := 71 }) D vwCl (cs_wM ad cI cZ n ky vl sp nd cm hs pl sh) (cs_tM cI cZ) [.ref (ad 0), .int p0] (-4) := by
  intro sz
  refine Met.ofW (cc := cX1_held) (maxL := 4) (ret := (some .int)) (by decide) rfl ?_
  intro p e s m args below meth c s₁ B hml hv9
  obtain ⟨rfl, hsz, hP, hK⟩ := hv9
  have hx := B.exec
  have hb := B.bytes
  have hr := B.returns
  have hts := atoms_spec (ws := (ws_ yX1_held cX1_held 4 (some .int))) B.pre
  have hts : ∀ w ∈ lw_all, w.before _ s = true := fun w h => hts w (List.mem_cons_of_mem _ h)
  have hown : s.vm.findClass RX1 = some m.cls := findClass_of_methodNamed B.named
  have hlocks := B.notSynchronized
  subst hsz
  generalize hAe : va_A [] s.heap.size = A
  have hA : ∀ q : Nat, s.heap.size ≤ q → A q := fun q h => by rw [← hAe]; exact Or.inr h
  have hS : va_S A s.heap s.heap [] := va_S.rf
  have hP : va_P D vwCl (cs_wM ad cI cZ n ky vl sp nd cm hs pl sh) s.heap := hP
  have hl := lv_entry ([.ref (ad 0), .int p0]) (n := 4) (Nat.le_of_ble_eq_true rfl)
  rw [lg_entry_eq]
  generalize (lg_sl ([.ref (ad 0), .int p0]) ++ List.replicate (4 - (lg_sl ([.ref (ad 0), .int p0])).length) Slot.unset).toArray = ls at hl ⊢
  have hl : lv_has ls 4 [(0, .ref (ad 0)), (1, .int p0)] := hl
  refine lv_aload_n hx hb dX1_held_0 rfl (lv_at hl 0 rfl) ?_
  refine lv_iload_n hx hb dX1_held_1 rfl (lv_at hl 1 rfl) ?_
  refine cs_callRV (C := RX1) (As := [.int p0]) (rest := []) ⟨hx, hb, hml, hown, hts⟩ (cs_three_t l D h) (cwV 1 hts (lw_V q195 q197 qs6 q13 q198) rfl rfl rfl (by decide +kernel) ⟨Nat.le_of_ble_eq_true rfl, Nat.le_of_ble_eq_true rfl⟩) (va_recv hK hP (ci := 1) (q0 := 0) rfl rfl) cs_P0 hK hP hS hA rfl hl.1 rfl (Nat.le_of_ble_eq_true rfl) dX1_held_2 ⟨Nat.zero_le _, Nat.zero_le _⟩ (fun H locs hP hS => ?_)
  refine cs_zne (tgt := 11) hx hb dX1_held_5 (by decide) (fun h9 => absurd h9 (by decide)) (fun h9 => ?_)
  refine lv_bipush (v := -4) hx hb dX1_held_8 (by decide) ?_
  exact W.iret (v := (-4)) hx hb hr (fun t ht hW => ⟨⟨(-4), (), rfl, rfl, trivial⟩, hS.F ht⟩) hS.2.2 dX1_held_10

set_option maxHeartbeats 4000000 in
set_option maxRecDepth 100000 in
theorem cm_held_loop {p : Program} {l : Launch} {e : Env} {R : Room} {s : State} {m : MethodId} {args : Array Value} {below : List Frame} {meth : Method} {c : Code} {Q : State → Prop} {D : va_G} {A : Nat → Prop} {H0 : Heap} (hx : p.tables.exec = Jvm.exec) (hb : c.code = cX1_held) (hml : c.maxLocals = 4) (hown : s.vm.findClass RX1 = some m.cls) (hts : ∀ w ∈ lw_all, w.before args s = true) (hA : ∀ q : Nat, H0.size ≤ q → A q) (hR : 0 ≤ R.frames ∧ 0 ≤ R.locals) {ad : Nat → Nat} {cI cZ : ClassId} (hK : va_K D vwCl (cs_tM cI cZ) s) {H : Heap} {locs : List Loc} {n : Nat} {ky : Nat → Nat} {vl : Nat → Int32} {sp : Nat → Int32} {nd : Nat → Bool} {cm : Nat → Bool} {hs : Nat → Bool} {pl : Nat → Nat} {sh : Nat → Bool} (z : Nat) (hz : z < 3) (hn : n ≤ 40) (V : Nat → Bool) (h0 : ∀ a, a < n → sh a = V a) (hP : va_P D vwCl (cs_wM ad cI cZ n ky vl sp nd cm hs pl sh) H) (hend : ∀ ls : Array Slot, lv_has ls 4 [(0, .ref (ad 0)), (1, .int (nI z)), (2, .int (nI (cs_n (fun v => cm (z * 40 + v) && !V v) n))), (3, .int (nI n))] → W p l e R s m args below meth c H locs 0 0 Q (F0 m 61 ls [])) :
    ∀ (j i : Nat), i + j = n →  ∀ ls : Array Slot, lv_has ls 4 [(0, .ref (ad 0)), (1, .int (nI z)), (2, .int (nI (cs_n (fun v => cm (z * 40 + v) && !V v) i))), (3, .int (nI i))] → W p l e R s m args below meth c H locs 0 0 Q (F0 m 21 ls []) := by
  intro j
  induction j with
  | zero =>
    intro i hi  ls hl
    refine lv_iload_n hx hb dX1_held_21 rfl (lv_at hl 3 rfl) ?_
    refine lv_aload_n hx hb dX1_held_22 rfl (lv_at hl 0 rfl) ?_
    refine va_get (D := D) (ci := 1) (v := .int (nI n)) (C := RX1) (T := TX1) (N := 9) hx hb hts in_X1 hown hK hP 0 rfl rfl 0 (by decide) (hts _ q162) (fun _ h9 => h9) rfl dX1_held_23 ?_
    refine cs_jge (tgt := 61) hx hb dX1_held_26 (by decide) (by omega) (by omega) (fun h => ?_) (fun h => absurd h (by omega))
    have hi : i = n := by omega
    subst hi
    exact hend ls hl
  | succ j ih =>
    intro i hi  ls hl
    refine lv_iload_n hx hb dX1_held_21 rfl (lv_at hl 3 rfl) ?_
    refine lv_aload_n hx hb dX1_held_22 rfl (lv_at hl 0 rfl) ?_
    refine va_get (D := D) (ci := 1) (v := .int (nI n)) (C := RX1) (T := TX1) (N := 9) hx hb hts in_X1 hown hK hP 0 rfl rfl 0 (by decide) (hts _ q162) (fun _ h9 => h9) rfl dX1_held_23 ?_
    refine cs_jge (tgt := 61) hx hb dX1_held_26 (by decide) (by omega) (by omega) (fun h => absurd h (by omega)) (fun h => ?_)
    refine lv_aload_n hx hb dX1_held_29 rfl (lv_at hl 0 rfl) ?_
    refine va_get (D := D) (ci := 1) (v := .ref (ad 5)) (C := RX1) (T := TX1) (N := 9) hx hb hts in_X1 hown hK hP 0 rfl rfl 5 (by decide) (hts _ q167) (fun _ h9 => h9) rfl dX1_held_30 ?_
    refine lv_iload_n hx hb dX1_held_33 rfl (lv_at hl 1 rfl) ?_
    refine lv_bipush (v := nI 40) hx hb dX1_held_34 (by decide) ?_
    refine cs_imul hx hb dX1_held_36 ?_
    refine lv_iload_n hx hb dX1_held_37 rfl (lv_at hl 3 rfl) ?_
    refine cs_iadd hx hb dX1_held_38 ?_
    refine cs_zald hx hb hK hP 5 1 rfl rfl (k := (z * 40) + i) (by omega) (by decide) dX1_held_39 ?_
    refine cs_zeq (tgt := 55) hx hb dX1_held_40 (by decide) (fun h2 => ?_) (fun h2 => ?_)
    · have h7 : (fun v => cm (z * 40 + v) && !V v) i = false := by show (cm (z * 40 + i) && !V i) = false; rw [h2]; rfl
      refine lv_iinc (v := nI (i + 1)) (lv' := [(3, .int (nI (i + 1))), (0, .ref (ad 0)), (1, .int (nI z)), (2, .int (nI (cs_n (fun v => cm (z * 40 + v) && !V v) i)))]) hx hb dX1_held_55 hl (k := 3) rfl (cs_inc _) (by decide) rfl (fun ls hl => ?_)
      refine lv_goto (tgt := 21) hx hb dX1_held_58 (by decide) ?_
      exact ih (i + 1) (by omega) ls (by rw [cs_n_f h7]; exact lv_sub hl [1, 2, 3, 0] rfl)
    · refine lv_aload_n hx hb dX1_held_43 rfl (lv_at hl 0 rfl) ?_
      refine va_get (D := D) (ci := 1) (v := .ref (ad 8)) (C := RX1) (T := TX1) (N := 9) hx hb hts in_X1 hown hK hP 0 rfl rfl 8 (by decide) (hts _ q170) (fun _ h9 => h9) rfl dX1_held_44 ?_
      refine lv_iload_n hx hb dX1_held_47 rfl (lv_at hl 3 rfl) ?_
      refine cs_zald hx hb hK hP 8 1 rfl rfl (k := i) (by omega) (by decide) dX1_held_48 ?_
      refine cs_zne (tgt := 55) hx hb dX1_held_49 (by decide) (fun h3 => ?_) (fun h3 => ?_)
      · have h7 : (fun v => cm (z * 40 + v) && !V v) i = false := by show (cm (z * 40 + i) && !V i) = false; rw [← h0 i h, h3, Bool.not_true, Bool.and_false]
        refine lv_iinc (v := nI (i + 1)) (lv' := [(3, .int (nI (i + 1))), (0, .ref (ad 0)), (1, .int (nI z)), (2, .int (nI (cs_n (fun v => cm (z * 40 + v) && !V v) i)))]) hx hb dX1_held_55 hl (k := 3) rfl (cs_inc _) (by decide) rfl (fun ls hl => ?_)
        refine lv_goto (tgt := 21) hx hb dX1_held_58 (by decide) ?_
        exact ih (i + 1) (by omega) ls (by rw [cs_n_f h7]; exact lv_sub hl [1, 2, 3, 0] rfl)
      · have h7 : (fun v => cm (z * 40 + v) && !V v) i = true := by show (cm (z * 40 + i) && !V i) = true; rw [← h0 i h, h3, h2]; rfl
        refine lv_iinc (v := nI (cs_n (fun v => cm (z * 40 + v) && !V v) i + 1)) (lv' := [(2, .int (nI (cs_n (fun v => cm (z * 40 + v) && !V v) i + 1))), (0, .ref (ad 0)), (1, .int (nI z)), (3, .int (nI i))]) hx hb dX1_held_52 hl (k := 2) rfl (cs_inc _) (by decide) rfl (fun ls hl => ?_)
        refine lv_iinc (v := nI (i + 1)) (lv' := [(3, .int (nI (i + 1))), (2, .int (nI (cs_n (fun v => cm (z * 40 + v) && !V v) i + 1))), (0, .ref (ad 0)), (1, .int (nI z))]) hx hb dX1_held_55 hl (k := 3) rfl (cs_inc _) (by decide) rfl (fun ls hl => ?_)
        refine lv_goto (tgt := 21) hx hb dX1_held_58 (by decide) ?_
        exact ih (i + 1) (by omega) ls (by rw [cs_n_t h7]; exact lv_sub hl [2, 3, 1, 0] rfl)

set_option maxHeartbeats 4000000 in
set_option maxRecDepth 100000 in
theorem cm_held_2 (l : Launch) (D : va_G) {ad : Nat → Nat} {cI cZ : ClassId} {n : Nat} {ky : Nat → Nat} {vl : Nat → Int32} {sp : Nat → Int32} {nd : Nat → Bool} {cm : Nat → Bool} {hs : Nat → Bool} {pl : Nat → Nat} {sh : Nat → Bool} (z : Nat) (hz : z < 3) (hn : n ≤ 40) (V : Nat → Bool) (hV : ∀ v, v < n → (V v = true ↔ (cm (z * 40 + v) = true ∧ ∀ b, b < n → nd (v * 40 + b) = true → V b = true))) (hnd : ∀ v b, v < n → b < n → nd (v * 40 + b) = true → b < v) : cs_MW l yX1_held (ws_ yX1_held cX1_held 4 (some .int)) ({ frames := 3, cells := 0, slots := 0, locals := 71 }) D vwCl (cs_wM ad cI cZ n ky vl sp nd cm hs pl sh) (cs_tM cI cZ) [.ref (ad 0), .int (nI z)] (fun r w' => r = nI (cs_n (fun v => cm (z * 40 + v) && !V v) n) ∧ ∃ sh1 : Nat → Bool, w' = cs_wM ad cI cZ n ky vl sp nd cm hs pl sh1) := by
  intro sz
  refine Met.ofW (cc := cX1_held) (maxL := 4) (ret := (some .int)) (by decide) rfl ?_
  intro p e s m args below meth c s₁ B hml hv9
  obtain ⟨rfl, hsz, hP, hK, hD0⟩ := hv9
  have hx := B.exec
  have hb := B.bytes
  have hr := B.returns
  have hts := atoms_spec (ws := (ws_ yX1_held cX1_held 4 (some .int))) B.pre
  have hts : ∀ w ∈ lw_all, w.before _ s = true := fun w h => hts w (List.mem_cons_of_mem _ h)
  have hown : s.vm.findClass RX1 = some m.cls := findClass_of_methodNamed B.named
  have hlocks := B.notSynchronized
  subst hsz
  have hD := hD0.self (sz := s.heap.size)
  generalize hAe : va_A (cs_wM ad cI cZ n ky vl sp nd cm hs pl sh) s.heap.size = A at hD ⊢
  have hA : ∀ q : Nat, s.heap.size ≤ q → A q := fun q h => by rw [← hAe]; exact Or.inr h
  have hS : va_S A s.heap s.heap [] := va_S.rf
  have hP : va_P D vwCl (cs_wM ad cI cZ n ky vl sp nd cm hs pl sh) s.heap := hP
  have hl := lv_entry ([.ref (ad 0), .int (nI z)]) (n := 4) (Nat.le_of_ble_eq_true rfl)
  rw [lg_entry_eq]
  generalize (lg_sl ([.ref (ad 0), .int (nI z)]) ++ List.replicate (4 - (lg_sl ([.ref (ad 0), .int (nI z)])).length) Slot.unset).toArray = ls at hl ⊢
  have hl : lv_has ls 4 [(0, .ref (ad 0)), (1, .int (nI z))] := hl
  refine lv_aload_n hx hb dX1_held_0 rfl (lv_at hl 0 rfl) ?_
  refine lv_iload_n hx hb dX1_held_1 rfl (lv_at hl 1 rfl) ?_
  refine cs_callRV (C := RX1) (As := [.int (nI z)]) (rest := []) ⟨hx, hb, hml, hown, hts⟩ (cs_three_k l D hz) (cwV 1 hts (lw_V q195 q197 qs6 q13 q198) rfl rfl rfl (by decide +kernel) ⟨Nat.le_of_ble_eq_true rfl, Nat.le_of_ble_eq_true rfl⟩) (va_recv hK hP (ci := 1) (q0 := 0) rfl rfl) cs_P0 hK hP hS hA rfl hl.1 rfl (Nat.le_of_ble_eq_true rfl) dX1_held_2 ⟨Nat.zero_le _, Nat.zero_le _⟩ (fun H locs hP hS => ?_)
  refine cs_zne (tgt := 11) hx hb dX1_held_5 (by decide) (fun h9 => ?_) (fun h9 => absurd h9 (by decide))
  refine lv_iconst (v := nI 0) hx hb dX1_held_11 (by decide) ?_
  refine lv_istore_n (lv' := [(2, .int (nI 0)), (0, .ref (ad 0)), (1, .int (nI z))]) hx hb dX1_held_12 rfl hl (by decide) rfl (fun ls hl => ?_)
  refine lv_aload_n hx hb dX1_held_13 rfl (lv_at hl 1 rfl) ?_
  refine lv_iload_n hx hb dX1_held_14 rfl (lv_at hl 2 rfl) ?_
  refine cs_callWV (C := RX1) (As := [.int (nI z)]) (rest := []) ⟨hx, hb, hml, hown, hts⟩ (cs_sweep l D z hz hn V hV hnd) (cwV 1 hts (lw_V q211 q213 qs8 q13 q214) rfl rfl rfl (by decide +kernel) ⟨Nat.le_of_ble_eq_true rfl, Nat.le_of_ble_eq_true rfl⟩) (va_recv hK hP (ci := 1) (q0 := 0) rfl rfl) hK hP hD hS hA rfl hl.1 rfl (Nat.le_of_ble_eq_true rfl) dX1_held_15 ⟨Nat.zero_le _, Nat.zero_le _⟩ (fun r w' H locs hq hP hD hS => ?_)
  obtain ⟨rfl, sh1, h0, rfl⟩ := hq
  refine lv_pop hx hb dX1_held_18 rfl ?_
  refine lv_iconst (v := nI 0) hx hb dX1_held_19 (by decide) ?_
  refine lv_istore_n (lv' := [(3, .int (nI 0)), (2, .int (nI 0)), (0, .ref (ad 0)), (1, .int (nI z))]) hx hb dX1_held_20 rfl hl (by decide) rfl (fun ls hl => ?_)
  refine cm_held_loop hx hb hml hown hts hA ⟨Nat.zero_le _, Nat.zero_le _⟩ hK z hz hn V h0 hP (fun ls hl => ?_) n 0 (by omega) ls (lv_sub hl [2, 3, 1, 0] rfl)
  refine lv_iload_n hx hb dX1_held_61 rfl (lv_at hl 2 rfl) ?_
  exact W.iret (v := (nI (cs_n (fun v => cm (z * 40 + v) && !V v) n))) hx hb hr (fun t ht hW => ⟨⟨(nI (cs_n (fun v => cm (z * 40 + v) && !V v) n)), cs_wM ad cI cZ n ky vl sp nd cm hs pl sh1, rfl, ⟨rfl, sh1, rfl⟩, by rw [ht]; exact hP, hD⟩, hS.F ht⟩) hS.2.2 dX1_held_62

set_option maxHeartbeats 4000000 in
set_option maxRecDepth 100000 in
theorem cm_move_1 (l : Launch) (D : va_G) {ad : Nat → Nat} {cI cZ : ClassId} {n : Nat} {ky : Nat → Nat} {vl : Nat → Int32} {sp : Nat → Int32} {nd : Nat → Bool} {cm : Nat → Bool} {hs : Nat → Bool} {pl : Nat → Nat} {sh : Nat → Bool} {p0 p1 : Int32} (h : cs_bad p0 = true) : cs_MR l yX1_move (ws_ yX1_move cX1_move 4 (some .int)) ({ frames := 3, cells := 0, slots := 0, locals := 71 }) D vwCl (cs_wM ad cI cZ n ky vl sp nd cm hs pl sh) (cs_tM cI cZ) [.ref (ad 0), .int p0, .int p1] (-1) := by
  intro sz
  refine Met.ofW (cc := cX1_move) (maxL := 4) (ret := (some .int)) (by decide) rfl ?_
  intro p e s m args below meth c s₁ B hml hv9
  obtain ⟨rfl, hsz, hP, hK⟩ := hv9
  have hx := B.exec
  have hb := B.bytes
  have hr := B.returns
  have hts := atoms_spec (ws := (ws_ yX1_move cX1_move 4 (some .int))) B.pre
  have hts : ∀ w ∈ lw_all, w.before _ s = true := fun w h => hts w (List.mem_cons_of_mem _ h)
  have hown : s.vm.findClass RX1 = some m.cls := findClass_of_methodNamed B.named
  have hlocks := B.notSynchronized
  subst hsz
  generalize hAe : va_A [] s.heap.size = A
  have hA : ∀ q : Nat, s.heap.size ≤ q → A q := fun q h => by rw [← hAe]; exact Or.inr h
  have hS : va_S A s.heap s.heap [] := va_S.rf
  have hP : va_P D vwCl (cs_wM ad cI cZ n ky vl sp nd cm hs pl sh) s.heap := hP
  have hl := lv_entry ([.ref (ad 0), .int p0, .int p1]) (n := 4) (Nat.le_of_ble_eq_true rfl)
  rw [lg_entry_eq]
  generalize (lg_sl ([.ref (ad 0), .int p0, .int p1]) ++ List.replicate (4 - (lg_sl ([.ref (ad 0), .int p0, .int p1])).length) Slot.unset).toArray = ls at hl ⊢
  have hl : lv_has ls 4 [(0, .ref (ad 0)), (1, .int p0), (2, .int p1)] := hl
  refine lv_aload_n hx hb dX1_move_0 rfl (lv_at hl 0 rfl) ?_
  refine lv_iload_n hx hb dX1_move_1 rfl (lv_at hl 1 rfl) ?_
  refine cs_callRV (C := RX1) (As := [.int p0]) (rest := []) ⟨hx, hb, hml, hown, hts⟩ (cs_three_t l D h) (cwV 1 hts (lw_V q195 q197 qs6 q13 q198) rfl rfl rfl (by decide +kernel) ⟨Nat.le_of_ble_eq_true rfl, Nat.le_of_ble_eq_true rfl⟩) (va_recv hK hP (ci := 1) (q0 := 0) rfl rfl) cs_P0 hK hP hS hA rfl hl.1 rfl (Nat.le_of_ble_eq_true rfl) dX1_move_2 ⟨Nat.zero_le _, Nat.zero_le _⟩ (fun H locs hP hS => ?_)
  refine cs_zne (tgt := 10) hx hb dX1_move_5 (by decide) (fun h9 => absurd h9 (by decide)) (fun h9 => ?_)
  refine lv_iconst (v := -1) hx hb dX1_move_8 (by decide) ?_
  exact W.iret (v := (-1)) hx hb hr (fun t ht hW => ⟨⟨(-1), (), rfl, rfl, trivial⟩, hS.F ht⟩) hS.2.2 dX1_move_9

set_option maxHeartbeats 4000000 in
set_option maxRecDepth 100000 in
theorem cm_move_2 (l : Launch) (D : va_G) {ad : Nat → Nat} {cI cZ : ClassId} {n : Nat} {ky : Nat → Nat} {vl : Nat → Int32} {sp : Nat → Int32} {nd : Nat → Bool} {cm : Nat → Bool} {hs : Nat → Bool} {pl : Nat → Nat} {sh : Nat → Bool} (u : Nat) {p1 : Int32} (hu : u < 3) (h : cs_bad p1 = true) : cs_MR l yX1_move (ws_ yX1_move cX1_move 4 (some .int)) ({ frames := 3, cells := 0, slots := 0, locals := 71 }) D vwCl (cs_wM ad cI cZ n ky vl sp nd cm hs pl sh) (cs_tM cI cZ) [.ref (ad 0), .int (nI u), .int p1] (-4) := by
  intro sz
  refine Met.ofW (cc := cX1_move) (maxL := 4) (ret := (some .int)) (by decide) rfl ?_
  intro p e s m args below meth c s₁ B hml hv9
  obtain ⟨rfl, hsz, hP, hK⟩ := hv9
  have hx := B.exec
  have hb := B.bytes
  have hr := B.returns
  have hts := atoms_spec (ws := (ws_ yX1_move cX1_move 4 (some .int))) B.pre
  have hts : ∀ w ∈ lw_all, w.before _ s = true := fun w h => hts w (List.mem_cons_of_mem _ h)
  have hown : s.vm.findClass RX1 = some m.cls := findClass_of_methodNamed B.named
  have hlocks := B.notSynchronized
  subst hsz
  generalize hAe : va_A [] s.heap.size = A
  have hA : ∀ q : Nat, s.heap.size ≤ q → A q := fun q h => by rw [← hAe]; exact Or.inr h
  have hS : va_S A s.heap s.heap [] := va_S.rf
  have hP : va_P D vwCl (cs_wM ad cI cZ n ky vl sp nd cm hs pl sh) s.heap := hP
  have hl := lv_entry ([.ref (ad 0), .int (nI u), .int p1]) (n := 4) (Nat.le_of_ble_eq_true rfl)
  rw [lg_entry_eq]
  generalize (lg_sl ([.ref (ad 0), .int (nI u), .int p1]) ++ List.replicate (4 - (lg_sl ([.ref (ad 0), .int (nI u), .int p1])).length) Slot.unset).toArray = ls at hl ⊢
  have hl : lv_has ls 4 [(0, .ref (ad 0)), (1, .int (nI u)), (2, .int p1)] := hl
  refine lv_aload_n hx hb dX1_move_0 rfl (lv_at hl 0 rfl) ?_
  refine lv_iload_n hx hb dX1_move_1 rfl (lv_at hl 1 rfl) ?_
  refine cs_callRV (C := RX1) (As := [.int (nI u)]) (rest := []) ⟨hx, hb, hml, hown, hts⟩ (cs_three_k l D hu) (cwV 1 hts (lw_V q195 q197 qs6 q13 q198) rfl rfl rfl (by decide +kernel) ⟨Nat.le_of_ble_eq_true rfl, Nat.le_of_ble_eq_true rfl⟩) (va_recv hK hP (ci := 1) (q0 := 0) rfl rfl) cs_P0 hK hP hS hA rfl hl.1 rfl (Nat.le_of_ble_eq_true rfl) dX1_move_2 ⟨Nat.zero_le _, Nat.zero_le _⟩ (fun H locs hP hS => ?_)
  refine cs_zne (tgt := 10) hx hb dX1_move_5 (by decide) (fun h9 => ?_) (fun h9 => absurd h9 (by decide))
  refine lv_aload_n hx hb dX1_move_10 rfl (lv_at hl 0 rfl) ?_
  refine lv_iload_n hx hb dX1_move_11 rfl (lv_at hl 2 rfl) ?_
  refine cs_callRV (C := RX1) (As := [.int p1]) (rest := []) ⟨hx, hb, hml, hown, hts⟩ (cs_three_t l D h) (cwV 1 hts (lw_V q195 q197 qs6 q13 q198) rfl rfl rfl (by decide +kernel) ⟨Nat.le_of_ble_eq_true rfl, Nat.le_of_ble_eq_true rfl⟩) (va_recv hK hP (ci := 1) (q0 := 0) rfl rfl) cs_P0 hK hP hS hA rfl hl.1 rfl (Nat.le_of_ble_eq_true rfl) dX1_move_12 ⟨Nat.zero_le _, Nat.zero_le _⟩ (fun H locs hP hS => ?_)
  refine cs_zne (tgt := 21) hx hb dX1_move_15 (by decide) (fun h9 => absurd h9 (by decide)) (fun h9 => ?_)
  refine lv_bipush (v := -4) hx hb dX1_move_18 (by decide) ?_
  exact W.iret (v := (-4)) hx hb hr (fun t ht hW => ⟨⟨(-4), (), rfl, rfl, trivial⟩, hS.F ht⟩) hS.2.2 dX1_move_20

set_option maxHeartbeats 4000000 in
set_option maxRecDepth 100000 in
theorem cm_move_loop {p : Program} {l : Launch} {e : Env} {R : Room} {s : State} {m : MethodId} {args : Array Value} {below : List Frame} {meth : Method} {c : Code} {Q : State → Prop} {D : va_G} {A : Nat → Prop} {H0 : Heap} (hx : p.tables.exec = Jvm.exec) (hb : c.code = cX1_move) (hml : c.maxLocals = 4) (hown : s.vm.findClass RX1 = some m.cls) (hts : ∀ w ∈ lw_all, w.before args s = true) (hA : ∀ q : Nat, H0.size ≤ q → A q) (hR : 0 ≤ R.frames ∧ 0 ≤ R.locals) {ad : Nat → Nat} {cI cZ : ClassId} (hK : va_K D vwCl (cs_tM cI cZ) s) {H : Heap} {locs : List Loc} {n : Nat} {ky : Nat → Nat} {vl : Nat → Int32} {sp : Nat → Int32} {nd : Nat → Bool} {cm : Nat → Bool} {hs : Nat → Bool} {pl : Nat → Nat} {sh : Nat → Bool} (u z : Nat) (hu : u < 3) (hn : n ≤ 40) (V : Nat → Bool) (h0 : ∀ a, a < n → sh a = V a) (hP : va_P D vwCl (cs_wM ad cI cZ n ky vl sp nd cm hs pl sh) H) (hend : (∀ a, a < n → hs (u * 40 + a) = true → V a = true) → ∀ ls : Array Slot, lv_has ls 4 [(0, .ref (ad 0)), (1, .int (nI u)), (2, .int (nI z)), (3, .int (nI n))] → W p l e R s m args below meth c H locs 0 0 Q (F0 m 69 ls [])) (hret : ¬ (∀ a, a < n → hs (u * 40 + a) = true → V a = true) → ∀ ls : Array Slot, W p l e R s m args below meth c H locs 0 0 Q (F0 m 60 ls [])) :
    ∀ (j i : Nat), i + j = n → (∀ a, a < i → hs (u * 40 + a) = true → V a = true) → ∀ ls : Array Slot, lv_has ls 4 [(0, .ref (ad 0)), (1, .int (nI u)), (2, .int (nI z)), (3, .int (nI i))] → W p l e R s m args below meth c H locs 0 0 Q (F0 m 29 ls []) := by
  intro j
  induction j with
  | zero =>
    intro i hi hall ls hl
    refine lv_iload_n hx hb dX1_move_29 rfl (lv_at hl 3 rfl) ?_
    refine lv_aload_n hx hb dX1_move_30 rfl (lv_at hl 0 rfl) ?_
    refine va_get (D := D) (ci := 1) (v := .int (nI n)) (C := RX1) (T := TX1) (N := 9) hx hb hts in_X1 hown hK hP 0 rfl rfl 0 (by decide) (hts _ q162) (fun _ h9 => h9) rfl dX1_move_31 ?_
    refine cs_jge (tgt := 69) hx hb dX1_move_34 (by decide) (by omega) (by omega) (fun h => ?_) (fun h => absurd h (by omega))
    have hi : i = n := by omega
    subst hi
    exact hend hall ls hl
  | succ j ih =>
    intro i hi hall ls hl
    refine lv_iload_n hx hb dX1_move_29 rfl (lv_at hl 3 rfl) ?_
    refine lv_aload_n hx hb dX1_move_30 rfl (lv_at hl 0 rfl) ?_
    refine va_get (D := D) (ci := 1) (v := .int (nI n)) (C := RX1) (T := TX1) (N := 9) hx hb hts in_X1 hown hK hP 0 rfl rfl 0 (by decide) (hts _ q162) (fun _ h9 => h9) rfl dX1_move_31 ?_
    refine cs_jge (tgt := 69) hx hb dX1_move_34 (by decide) (by omega) (by omega) (fun h => absurd h (by omega)) (fun h => ?_)
    refine lv_aload_n hx hb dX1_move_37 rfl (lv_at hl 0 rfl) ?_
    refine va_get (D := D) (ci := 1) (v := .ref (ad 6)) (C := RX1) (T := TX1) (N := 9) hx hb hts in_X1 hown hK hP 0 rfl rfl 6 (by decide) (hts _ q168) (fun _ h9 => h9) rfl dX1_move_38 ?_
    refine lv_iload_n hx hb dX1_move_41 rfl (lv_at hl 1 rfl) ?_
    refine lv_bipush (v := nI 40) hx hb dX1_move_42 (by decide) ?_
    refine cs_imul hx hb dX1_move_44 ?_
    refine lv_iload_n hx hb dX1_move_45 rfl (lv_at hl 3 rfl) ?_
    refine cs_iadd hx hb dX1_move_46 ?_
    refine cs_zald hx hb hK hP 6 1 rfl rfl (k := (u * 40) + i) (by omega) (by decide) dX1_move_47 ?_
    refine cs_zeq (tgt := 63) hx hb dX1_move_48 (by decide) (fun h1 => ?_) (fun h1 => ?_)
    · refine lv_iinc (v := nI (i + 1)) (lv' := [(3, .int (nI (i + 1))), (0, .ref (ad 0)), (1, .int (nI u)), (2, .int (nI z))]) hx hb dX1_move_63 hl (k := 3) rfl (cs_inc _) (by decide) rfl (fun ls hl => ?_)
      refine lv_goto (tgt := 29) hx hb dX1_move_66 (by decide) ?_
      exact ih (i + 1) (by omega) (lt_s hall (fun q => absurd (h1.symm.trans q) (by decide))) ls (lv_sub hl [1, 2, 3, 0] rfl)
    · refine lv_aload_n hx hb dX1_move_51 rfl (lv_at hl 0 rfl) ?_
      refine va_get (D := D) (ci := 1) (v := .ref (ad 8)) (C := RX1) (T := TX1) (N := 9) hx hb hts in_X1 hown hK hP 0 rfl rfl 8 (by decide) (hts _ q170) (fun _ h9 => h9) rfl dX1_move_52 ?_
      refine lv_iload_n hx hb dX1_move_55 rfl (lv_at hl 3 rfl) ?_
      refine cs_zald hx hb hK hP 8 1 rfl rfl (k := i) (by omega) (by decide) dX1_move_56 ?_
      refine cs_zne (tgt := 63) hx hb dX1_move_57 (by decide) (fun h2 => ?_) (fun h2 => ?_)
      · refine lv_iinc (v := nI (i + 1)) (lv' := [(3, .int (nI (i + 1))), (0, .ref (ad 0)), (1, .int (nI u)), (2, .int (nI z))]) hx hb dX1_move_63 hl (k := 3) rfl (cs_inc _) (by decide) rfl (fun ls hl => ?_)
        refine lv_goto (tgt := 29) hx hb dX1_move_66 (by decide) ?_
        exact ih (i + 1) (by omega) (lt_s hall (fun _ => (h0 i h).symm.trans h2)) ls (lv_sub hl [1, 2, 3, 0] rfl)
      · exact hret (fun q => absurd (h2.symm.trans ((h0 i h).trans (q i h h1))) (by decide)) ls

set_option maxHeartbeats 4000000 in
set_option maxRecDepth 100000 in
theorem cm_move_3 (l : Launch) (D : va_G) {ad : Nat → Nat} {cI cZ : ClassId} {n : Nat} {ky : Nat → Nat} {vl : Nat → Int32} {sp : Nat → Int32} {nd : Nat → Bool} {cm : Nat → Bool} {hs : Nat → Bool} {pl : Nat → Nat} {sh : Nat → Bool} (u : Nat) (hu : u < 3) (z : Nat) (hz : z < 3) (hn : n ≤ 40) (V : Nat → Bool) (hV : ∀ v, v < n → (V v = true ↔ (cm (z * 40 + v) = true ∧ ∀ b, b < n → nd (v * 40 + b) = true → V b = true))) (hnd : ∀ v b, v < n → b < n → nd (v * 40 + b) = true → b < v) (hs9 : ¬ (∀ a, a < n → hs (u * 40 + a) = true → V a = true)) : cs_MW l yX1_move (ws_ yX1_move cX1_move 4 (some .int)) ({ frames := 3, cells := 0, slots := 0, locals := 71 }) D vwCl (cs_wM ad cI cZ n ky vl sp nd cm hs pl sh) (cs_tM cI cZ) [.ref (ad 0), .int (nI u), .int (nI z)] (fun r w' => r = -7 ∧ ∃ sh1 : Nat → Bool, w' = cs_wM ad cI cZ n ky vl sp nd cm hs pl sh1) := by
  intro sz
  refine Met.ofW (cc := cX1_move) (maxL := 4) (ret := (some .int)) (by decide) rfl ?_
  intro p e s m args below meth c s₁ B hml hv9
  obtain ⟨rfl, hsz, hP, hK, hD0⟩ := hv9
  have hx := B.exec
  have hb := B.bytes
  have hr := B.returns
  have hts := atoms_spec (ws := (ws_ yX1_move cX1_move 4 (some .int))) B.pre
  have hts : ∀ w ∈ lw_all, w.before _ s = true := fun w h => hts w (List.mem_cons_of_mem _ h)
  have hown : s.vm.findClass RX1 = some m.cls := findClass_of_methodNamed B.named
  have hlocks := B.notSynchronized
  subst hsz
  have hD := hD0.self (sz := s.heap.size)
  generalize hAe : va_A (cs_wM ad cI cZ n ky vl sp nd cm hs pl sh) s.heap.size = A at hD ⊢
  have hA : ∀ q : Nat, s.heap.size ≤ q → A q := fun q h => by rw [← hAe]; exact Or.inr h
  have hS : va_S A s.heap s.heap [] := va_S.rf
  have hP : va_P D vwCl (cs_wM ad cI cZ n ky vl sp nd cm hs pl sh) s.heap := hP
  have hl := lv_entry ([.ref (ad 0), .int (nI u), .int (nI z)]) (n := 4) (Nat.le_of_ble_eq_true rfl)
  rw [lg_entry_eq]
  generalize (lg_sl ([.ref (ad 0), .int (nI u), .int (nI z)]) ++ List.replicate (4 - (lg_sl ([.ref (ad 0), .int (nI u), .int (nI z)])).length) Slot.unset).toArray = ls at hl ⊢
  have hl : lv_has ls 4 [(0, .ref (ad 0)), (1, .int (nI u)), (2, .int (nI z))] := hl
  refine lv_aload_n hx hb dX1_move_0 rfl (lv_at hl 0 rfl) ?_
  refine lv_iload_n hx hb dX1_move_1 rfl (lv_at hl 1 rfl) ?_
  refine cs_callRV (C := RX1) (As := [.int (nI u)]) (rest := []) ⟨hx, hb, hml, hown, hts⟩ (cs_three_k l D hu) (cwV 1 hts (lw_V q195 q197 qs6 q13 q198) rfl rfl rfl (by decide +kernel) ⟨Nat.le_of_ble_eq_true rfl, Nat.le_of_ble_eq_true rfl⟩) (va_recv hK hP (ci := 1) (q0 := 0) rfl rfl) cs_P0 hK hP hS hA rfl hl.1 rfl (Nat.le_of_ble_eq_true rfl) dX1_move_2 ⟨Nat.zero_le _, Nat.zero_le _⟩ (fun H locs hP hS => ?_)
  refine cs_zne (tgt := 10) hx hb dX1_move_5 (by decide) (fun h9 => ?_) (fun h9 => absurd h9 (by decide))
  refine lv_aload_n hx hb dX1_move_10 rfl (lv_at hl 0 rfl) ?_
  refine lv_iload_n hx hb dX1_move_11 rfl (lv_at hl 2 rfl) ?_
  refine cs_callRV (C := RX1) (As := [.int (nI z)]) (rest := []) ⟨hx, hb, hml, hown, hts⟩ (cs_three_k l D hz) (cwV 1 hts (lw_V q195 q197 qs6 q13 q198) rfl rfl rfl (by decide +kernel) ⟨Nat.le_of_ble_eq_true rfl, Nat.le_of_ble_eq_true rfl⟩) (va_recv hK hP (ci := 1) (q0 := 0) rfl rfl) cs_P0 hK hP hS hA rfl hl.1 rfl (Nat.le_of_ble_eq_true rfl) dX1_move_12 ⟨Nat.zero_le _, Nat.zero_le _⟩ (fun H locs hP hS => ?_)
  refine cs_zne (tgt := 21) hx hb dX1_move_15 (by decide) (fun h9 => ?_) (fun h9 => absurd h9 (by decide))
  refine lv_aload_n hx hb dX1_move_21 rfl (lv_at hl 0 rfl) ?_
  refine lv_iload_n hx hb dX1_move_22 rfl (lv_at hl 2 rfl) ?_
  refine cs_callWV (C := RX1) (As := [.int (nI z)]) (rest := []) ⟨hx, hb, hml, hown, hts⟩ (cs_sweep l D z hz hn V hV hnd) (cwV 1 hts (lw_V q211 q213 qs8 q13 q214) rfl rfl rfl (by decide +kernel) ⟨Nat.le_of_ble_eq_true rfl, Nat.le_of_ble_eq_true rfl⟩) (va_recv hK hP (ci := 1) (q0 := 0) rfl rfl) hK hP hD hS hA rfl hl.1 rfl (Nat.le_of_ble_eq_true rfl) dX1_move_23 ⟨Nat.zero_le _, Nat.zero_le _⟩ (fun r w' H locs hq hP hD hS => ?_)
  obtain ⟨rfl, sh1, h0, rfl⟩ := hq
  refine lv_pop hx hb dX1_move_26 rfl ?_
  refine lv_iconst (v := nI 0) hx hb dX1_move_27 (by decide) ?_
  refine lv_istore_n (lv' := [(3, .int (nI 0)), (0, .ref (ad 0)), (1, .int (nI u)), (2, .int (nI z))]) hx hb dX1_move_28 rfl hl (by decide) rfl (fun ls hl => ?_)
  refine cm_move_loop hx hb hml hown hts hA ⟨Nat.zero_le _, Nat.zero_le _⟩ hK u z hu hn V h0 hP (fun hq ls hl => absurd hq hs9) (fun hq ls => ?_) n 0 (by omega) (fun a ha => absurd ha (by omega)) ls (lv_sub hl [1, 2, 3, 0] rfl)
  refine lv_bipush (v := -7) hx hb dX1_move_60 (by decide) ?_
  exact W.iret (v := (-7)) hx hb hr (fun t ht hW => ⟨⟨(-7), cs_wM ad cI cZ n ky vl sp nd cm hs pl sh1, rfl, ⟨rfl, sh1, rfl⟩, by rw [ht]; exact hP, hD⟩, hS.F ht⟩) hS.2.2 dX1_move_62

set_option maxHeartbeats 4000000 in
set_option maxRecDepth 100000 in
theorem cm_move_4 (l : Launch) (D : va_G) {ad : Nat → Nat} {cI cZ : ClassId} {n : Nat} {ky : Nat → Nat} {vl : Nat → Int32} {sp : Nat → Int32} {nd : Nat → Bool} {cm : Nat → Bool} {hs : Nat → Bool} {pl : Nat → Nat} {sh : Nat → Bool} (u : Nat) (hu : u < 3) (z : Nat) (hz : z < 3) (hn : n ≤ 40) (V : Nat → Bool) (hV : ∀ v, v < n → (V v = true ↔ (cm (z * 40 + v) = true ∧ ∀ b, b < n → nd (v * 40 + b) = true → V b = true))) (hnd : ∀ v b, v < n → b < n → nd (v * 40 + b) = true → b < v) (hs9 : ∀ a, a < n → hs (u * 40 + a) = true → V a = true) : cs_MW l yX1_move (ws_ yX1_move cX1_move 4 (some .int)) ({ frames := 3, cells := 0, slots := 0, locals := 71 }) D vwCl (cs_wM ad cI cZ n ky vl sp nd cm hs pl sh) (cs_tM cI cZ) [.ref (ad 0), .int (nI u), .int (nI z)] (fun r w' => r = nI 0 ∧ ∃ sh1 : Nat → Bool, w' = cs_wM ad cI cZ n ky vl sp nd cm hs (va_up pl u z) sh1) := by
  intro sz
  refine Met.ofW (cc := cX1_move) (maxL := 4) (ret := (some .int)) (by decide) rfl ?_
  intro p e s m args below meth c s₁ B hml hv9
  obtain ⟨rfl, hsz, hP, hK, hD0⟩ := hv9
  have hx := B.exec
  have hb := B.bytes
  have hr := B.returns
  have hts := atoms_spec (ws := (ws_ yX1_move cX1_move 4 (some .int))) B.pre
  have hts : ∀ w ∈ lw_all, w.before _ s = true := fun w h => hts w (List.mem_cons_of_mem _ h)
  have hown : s.vm.findClass RX1 = some m.cls := findClass_of_methodNamed B.named
  have hlocks := B.notSynchronized
  subst hsz
  have hD := hD0.self (sz := s.heap.size)
  generalize hAe : va_A (cs_wM ad cI cZ n ky vl sp nd cm hs pl sh) s.heap.size = A at hD ⊢
  have hA : ∀ q : Nat, s.heap.size ≤ q → A q := fun q h => by rw [← hAe]; exact Or.inr h
  have hS : va_S A s.heap s.heap [] := va_S.rf
  have hP : va_P D vwCl (cs_wM ad cI cZ n ky vl sp nd cm hs pl sh) s.heap := hP
  have hl := lv_entry ([.ref (ad 0), .int (nI u), .int (nI z)]) (n := 4) (Nat.le_of_ble_eq_true rfl)
  rw [lg_entry_eq]
  generalize (lg_sl ([.ref (ad 0), .int (nI u), .int (nI z)]) ++ List.replicate (4 - (lg_sl ([.ref (ad 0), .int (nI u), .int (nI z)])).length) Slot.unset).toArray = ls at hl ⊢
  have hl : lv_has ls 4 [(0, .ref (ad 0)), (1, .int (nI u)), (2, .int (nI z))] := hl
  refine lv_aload_n hx hb dX1_move_0 rfl (lv_at hl 0 rfl) ?_
  refine lv_iload_n hx hb dX1_move_1 rfl (lv_at hl 1 rfl) ?_
  refine cs_callRV (C := RX1) (As := [.int (nI u)]) (rest := []) ⟨hx, hb, hml, hown, hts⟩ (cs_three_k l D hu) (cwV 1 hts (lw_V q195 q197 qs6 q13 q198) rfl rfl rfl (by decide +kernel) ⟨Nat.le_of_ble_eq_true rfl, Nat.le_of_ble_eq_true rfl⟩) (va_recv hK hP (ci := 1) (q0 := 0) rfl rfl) cs_P0 hK hP hS hA rfl hl.1 rfl (Nat.le_of_ble_eq_true rfl) dX1_move_2 ⟨Nat.zero_le _, Nat.zero_le _⟩ (fun H locs hP hS => ?_)
  refine cs_zne (tgt := 10) hx hb dX1_move_5 (by decide) (fun h9 => ?_) (fun h9 => absurd h9 (by decide))
  refine lv_aload_n hx hb dX1_move_10 rfl (lv_at hl 0 rfl) ?_
  refine lv_iload_n hx hb dX1_move_11 rfl (lv_at hl 2 rfl) ?_
  refine cs_callRV (C := RX1) (As := [.int (nI z)]) (rest := []) ⟨hx, hb, hml, hown, hts⟩ (cs_three_k l D hz) (cwV 1 hts (lw_V q195 q197 qs6 q13 q198) rfl rfl rfl (by decide +kernel) ⟨Nat.le_of_ble_eq_true rfl, Nat.le_of_ble_eq_true rfl⟩) (va_recv hK hP (ci := 1) (q0 := 0) rfl rfl) cs_P0 hK hP hS hA rfl hl.1 rfl (Nat.le_of_ble_eq_true rfl) dX1_move_12 ⟨Nat.zero_le _, Nat.zero_le _⟩ (fun H locs hP hS => ?_)
  refine cs_zne (tgt := 21) hx hb dX1_move_15 (by decide) (fun h9 => ?_) (fun h9 => absurd h9 (by decide))
  refine lv_aload_n hx hb dX1_move_21 rfl (lv_at hl 0 rfl) ?_
  refine lv_iload_n hx hb dX1_move_22 rfl (lv_at hl 2 rfl) ?_
  refine cs_callWV (C := RX1) (As := [.int (nI z)]) (rest := []) ⟨hx, hb, hml, hown, hts⟩ (cs_sweep l D z hz hn V hV hnd) (cwV 1 hts (lw_V q211 q213 qs8 q13 q214) rfl rfl rfl (by decide +kernel) ⟨Nat.le_of_ble_eq_true rfl, Nat.le_of_ble_eq_true rfl⟩) (va_recv hK hP (ci := 1) (q0 := 0) rfl rfl) hK hP hD hS hA rfl hl.1 rfl (Nat.le_of_ble_eq_true rfl) dX1_move_23 ⟨Nat.zero_le _, Nat.zero_le _⟩ (fun r w' H locs hq hP hD hS => ?_)
  obtain ⟨rfl, sh1, h0, rfl⟩ := hq
  refine lv_pop hx hb dX1_move_26 rfl ?_
  refine lv_iconst (v := nI 0) hx hb dX1_move_27 (by decide) ?_
  refine lv_istore_n (lv' := [(3, .int (nI 0)), (0, .ref (ad 0)), (1, .int (nI u)), (2, .int (nI z))]) hx hb dX1_move_28 rfl hl (by decide) rfl (fun ls hl => ?_)
  refine cm_move_loop hx hb hml hown hts hA ⟨Nat.zero_le _, Nat.zero_le _⟩ hK u z hu hn V h0 hP (fun hq ls hl => ?_) (fun hq ls => absurd hs9 hq) n 0 (by omega) (fun a ha => absurd ha (by omega)) ls (lv_sub hl [1, 2, 3, 0] rfl)
  refine lv_aload_n hx hb dX1_move_69 rfl (lv_at hl 0 rfl) ?_
  refine va_get (D := D) (ci := 1) (v := .ref (ad 7)) (C := RX1) (T := TX1) (N := 9) hx hb hts in_X1 hown hK hP 0 rfl rfl 7 (by decide) (hts _ q169) (fun _ h9 => h9) rfl dX1_move_70 ?_
  refine lv_iload_n hx hb dX1_move_73 rfl (lv_at hl 1 rfl) ?_
  refine lv_iload_n hx hb dX1_move_74 rfl (lv_at hl 2 rfl) ?_
  refine cs_iastN (f := pl) (k := u) (x := z) hx hb hK hP hD hS 7 0 rfl rfl (by omega) (by decide) dX1_move_75 (fun H locs hP hD hS => ?_)
  have hP : va_P D vwCl (cs_wM ad cI cZ n ky vl sp nd cm hs (va_up pl u z) sh1) H := hP
  have hD : va_D A (cs_wM ad cI cZ n ky vl sp nd cm hs (va_up pl u z) sh1) := hD
  refine lv_iconst (v := nI 0) hx hb dX1_move_76 (by decide) ?_
  exact W.iret (v := (nI 0)) hx hb hr (fun t ht hW => ⟨⟨(nI 0), cs_wM ad cI cZ n ky vl sp nd cm hs (va_up pl u z) sh1, rfl, ⟨rfl, sh1, rfl⟩, by rw [ht]; exact hP, hD⟩, hS.F ht⟩) hS.2.2 dX1_move_77

set_option maxHeartbeats 4000000 in
set_option maxRecDepth 100000 in
theorem cm_winner_1 (l : Launch) (D : va_G) {ad : Nat → Nat} {cI cZ : ClassId} {n : Nat} {ky : Nat → Nat} {vl : Nat → Int32} {sp : Nat → Int32} {nd : Nat → Bool} {cm : Nat → Bool} {hs : Nat → Bool} {pl : Nat → Nat} {sh : Nat → Bool} {p0 p1 : Int32} (h : cs_bad p0 = true) : cs_MR l yX1_winner (ws_ yX1_winner cX1_winner 5 (some .int)) ({ frames := 2, cells := 0, slots := 0, locals := 47 }) D vwCl (cs_wM ad cI cZ n ky vl sp nd cm hs pl sh) (cs_tM cI cZ) [.ref (ad 0), .int p0, .int p1] (-4) := by
  intro sz
  refine Met.ofW (cc := cX1_winner) (maxL := 5) (ret := (some .int)) (by decide) rfl ?_
  intro p e s m args below meth c s₁ B hml hv9
  obtain ⟨rfl, hsz, hP, hK⟩ := hv9
  have hx := B.exec
  have hb := B.bytes
  have hr := B.returns
  have hts := atoms_spec (ws := (ws_ yX1_winner cX1_winner 5 (some .int))) B.pre
  have hts : ∀ w ∈ lw_all, w.before _ s = true := fun w h => hts w (List.mem_cons_of_mem _ h)
  have hown : s.vm.findClass RX1 = some m.cls := findClass_of_methodNamed B.named
  have hlocks := B.notSynchronized
  subst hsz
  generalize hAe : va_A [] s.heap.size = A
  have hA : ∀ q : Nat, s.heap.size ≤ q → A q := fun q h => by rw [← hAe]; exact Or.inr h
  have hS : va_S A s.heap s.heap [] := va_S.rf
  have hP : va_P D vwCl (cs_wM ad cI cZ n ky vl sp nd cm hs pl sh) s.heap := hP
  have hl := lv_entry ([.ref (ad 0), .int p0, .int p1]) (n := 5) (Nat.le_of_ble_eq_true rfl)
  rw [lg_entry_eq]
  generalize (lg_sl ([.ref (ad 0), .int p0, .int p1]) ++ List.replicate (5 - (lg_sl ([.ref (ad 0), .int p0, .int p1])).length) Slot.unset).toArray = ls at hl ⊢
  have hl : lv_has ls 5 [(0, .ref (ad 0)), (1, .int p0), (2, .int p1)] := hl
  refine lv_aload_n hx hb dX1_winner_0 rfl (lv_at hl 0 rfl) ?_
  refine lv_iload_n hx hb dX1_winner_1 rfl (lv_at hl 1 rfl) ?_
  refine cs_callRV (C := RX1) (As := [.int p0]) (rest := []) ⟨hx, hb, hml, hown, hts⟩ (cs_three_t l D h) (cwV 1 hts (lw_V q195 q197 qs6 q13 q198) rfl rfl rfl (by decide +kernel) ⟨Nat.le_of_ble_eq_true rfl, Nat.le_of_ble_eq_true rfl⟩) (va_recv hK hP (ci := 1) (q0 := 0) rfl rfl) cs_P0 hK hP hS hA rfl hl.1 rfl (Nat.le_of_ble_eq_true rfl) dX1_winner_2 ⟨Nat.zero_le _, Nat.zero_le _⟩ (fun H locs hP hS => ?_)
  refine cs_zne (tgt := 11) hx hb dX1_winner_5 (by decide) (fun h9 => absurd h9 (by decide)) (fun h9 => ?_)
  refine lv_bipush (v := -4) hx hb dX1_winner_8 (by decide) ?_
  exact W.iret (v := (-4)) hx hb hr (fun t ht hW => ⟨⟨(-4), (), rfl, rfl, trivial⟩, hS.F ht⟩) hS.2.2 dX1_winner_10

set_option maxHeartbeats 4000000 in
set_option maxRecDepth 100000 in
theorem cm_winner_2 (l : Launch) (D : va_G) {ad : Nat → Nat} {cI cZ : ClassId} {n : Nat} {ky : Nat → Nat} {vl : Nat → Int32} {sp : Nat → Int32} {nd : Nat → Bool} {cm : Nat → Bool} {hs : Nat → Bool} {pl : Nat → Nat} {sh : Nat → Bool} (z : Nat) {p1 : Int32} (hz : z < 3) (h : cs_nk p1 = true) : cs_MR l yX1_winner (ws_ yX1_winner cX1_winner 5 (some .int)) ({ frames := 2, cells := 0, slots := 0, locals := 47 }) D vwCl (cs_wM ad cI cZ n ky vl sp nd cm hs pl sh) (cs_tM cI cZ) [.ref (ad 0), .int (nI z), .int p1] (-2) := by
  intro sz
  refine Met.ofW (cc := cX1_winner) (maxL := 5) (ret := (some .int)) (by decide) rfl ?_
  intro p e s m args below meth c s₁ B hml hv9
  obtain ⟨rfl, hsz, hP, hK⟩ := hv9
  have hx := B.exec
  have hb := B.bytes
  have hr := B.returns
  have hts := atoms_spec (ws := (ws_ yX1_winner cX1_winner 5 (some .int))) B.pre
  have hts : ∀ w ∈ lw_all, w.before _ s = true := fun w h => hts w (List.mem_cons_of_mem _ h)
  have hown : s.vm.findClass RX1 = some m.cls := findClass_of_methodNamed B.named
  have hlocks := B.notSynchronized
  subst hsz
  generalize hAe : va_A [] s.heap.size = A
  have hA : ∀ q : Nat, s.heap.size ≤ q → A q := fun q h => by rw [← hAe]; exact Or.inr h
  have hS : va_S A s.heap s.heap [] := va_S.rf
  have hP : va_P D vwCl (cs_wM ad cI cZ n ky vl sp nd cm hs pl sh) s.heap := hP
  have hl := lv_entry ([.ref (ad 0), .int (nI z), .int p1]) (n := 5) (Nat.le_of_ble_eq_true rfl)
  rw [lg_entry_eq]
  generalize (lg_sl ([.ref (ad 0), .int (nI z), .int p1]) ++ List.replicate (5 - (lg_sl ([.ref (ad 0), .int (nI z), .int p1])).length) Slot.unset).toArray = ls at hl ⊢
  have hl : lv_has ls 5 [(0, .ref (ad 0)), (1, .int (nI z)), (2, .int p1)] := hl
  refine lv_aload_n hx hb dX1_winner_0 rfl (lv_at hl 0 rfl) ?_
  refine lv_iload_n hx hb dX1_winner_1 rfl (lv_at hl 1 rfl) ?_
  refine cs_callRV (C := RX1) (As := [.int (nI z)]) (rest := []) ⟨hx, hb, hml, hown, hts⟩ (cs_three_k l D hz) (cwV 1 hts (lw_V q195 q197 qs6 q13 q198) rfl rfl rfl (by decide +kernel) ⟨Nat.le_of_ble_eq_true rfl, Nat.le_of_ble_eq_true rfl⟩) (va_recv hK hP (ci := 1) (q0 := 0) rfl rfl) cs_P0 hK hP hS hA rfl hl.1 rfl (Nat.le_of_ble_eq_true rfl) dX1_winner_2 ⟨Nat.zero_le _, Nat.zero_le _⟩ (fun H locs hP hS => ?_)
  refine cs_zne (tgt := 11) hx hb dX1_winner_5 (by decide) (fun h9 => ?_) (fun h9 => absurd h9 (by decide))
  refine lv_aload_n hx hb dX1_winner_11 rfl (lv_at hl 0 rfl) ?_
  refine lv_iload_n hx hb dX1_winner_12 rfl (lv_at hl 2 rfl) ?_
  refine cs_callRV (C := RX1) (As := [.int p1]) (rest := []) ⟨hx, hb, hml, hown, hts⟩ (cs_isKey_t l D h) (cwV 1 hts (lw_V q199 q201 qs7 q13 q202) rfl rfl rfl (by decide +kernel) ⟨Nat.le_of_ble_eq_true rfl, Nat.le_of_ble_eq_true rfl⟩) (va_recv hK hP (ci := 1) (q0 := 0) rfl rfl) cs_P0 hK hP hS hA rfl hl.1 rfl (Nat.le_of_ble_eq_true rfl) dX1_winner_13 ⟨Nat.zero_le _, Nat.zero_le _⟩ (fun H locs hP hS => ?_)
  refine cs_zne (tgt := 22) hx hb dX1_winner_16 (by decide) (fun h9 => absurd h9 (by decide)) (fun h9 => ?_)
  refine lv_bipush (v := -2) hx hb dX1_winner_19 (by decide) ?_
  exact W.iret (v := (-2)) hx hb hr (fun t ht hW => ⟨⟨(-2), (), rfl, rfl, trivial⟩, hS.F ht⟩) hS.2.2 dX1_winner_21

set_option maxHeartbeats 4000000 in
set_option maxRecDepth 100000 in
theorem cm_winner_loop {p : Program} {l : Launch} {e : Env} {R : Room} {s : State} {m : MethodId} {args : Array Value} {below : List Frame} {meth : Method} {c : Code} {Q : State → Prop} {D : va_G} {A : Nat → Prop} {H0 : Heap} (hx : p.tables.exec = Jvm.exec) (hb : c.code = cX1_winner) (hml : c.maxLocals = 5) (hown : s.vm.findClass RX1 = some m.cls) (hts : ∀ w ∈ lw_all, w.before args s = true) (hA : ∀ q : Nat, H0.size ≤ q → A q) (hR : 0 ≤ R.frames ∧ 0 ≤ R.locals) {ad : Nat → Nat} {cI cZ : ClassId} (hK : va_K D vwCl (cs_tM cI cZ) s) {H : Heap} {locs : List Loc} {n : Nat} {ky : Nat → Nat} {vl : Nat → Int32} {sp : Nat → Int32} {nd : Nat → Bool} {cm : Nat → Bool} {hs : Nat → Bool} {pl : Nat → Nat} {sh : Nat → Bool} (z k : Nat) (hk : k < 6) (hn : n ≤ 40) (hky : ∀ v, ky v < 6) (V : Nat → Bool) (h0 : ∀ a, a < n → sh a = V a) (hP : va_P D vwCl (cs_wM ad cI cZ n ky vl sp nd cm hs pl sh) H) (hend : ∀ o, cs_W n ky sp V k o → ∀ ls : Array Slot, lv_has ls 5 [(0, .ref (ad 0)), (1, .int (nI z)), (2, .int (nI k)), (3, .int (cs_o o)), (4, .int (nI n))] → W p l e R s m args below meth c H locs 0 0 Q (F0 m 93 ls [])) :
    ∀ (j i : Nat), i + j = n → ∀ o : Option Nat, cs_W i ky sp V k o → ∀ ls : Array Slot, lv_has ls 5 [(0, .ref (ad 0)), (1, .int (nI z)), (2, .int (nI k)), (3, .int (cs_o o)), (4, .int (nI i))] → W p l e R s m args below meth c H locs 0 0 Q (F0 m 34 ls []) := by
  intro j
  induction j with
  | zero =>
    intro i hi o ho ls hl
    refine lv_iload hx hb dX1_winner_34 (lv_at hl 4 rfl) ?_
    refine lv_aload_n hx hb dX1_winner_36 rfl (lv_at hl 0 rfl) ?_
    refine va_get (D := D) (ci := 1) (v := .int (nI n)) (C := RX1) (T := TX1) (N := 9) hx hb hts in_X1 hown hK hP 0 rfl rfl 0 (by decide) (hts _ q162) (fun _ h9 => h9) rfl dX1_winner_37 ?_
    refine cs_jge (tgt := 93) hx hb dX1_winner_40 (by decide) (by omega) (by omega) (fun h => ?_) (fun h => absurd h (by omega))
    have hi : i = n := by omega
    subst hi
    exact hend o ho ls hl
  | succ j ih =>
    intro i hi o ho ls hl
    refine lv_iload hx hb dX1_winner_34 (lv_at hl 4 rfl) ?_
    refine lv_aload_n hx hb dX1_winner_36 rfl (lv_at hl 0 rfl) ?_
    refine va_get (D := D) (ci := 1) (v := .int (nI n)) (C := RX1) (T := TX1) (N := 9) hx hb hts in_X1 hown hK hP 0 rfl rfl 0 (by decide) (hts _ q162) (fun _ h9 => h9) rfl dX1_winner_37 ?_
    refine cs_jge (tgt := 93) hx hb dX1_winner_40 (by decide) (by omega) (by omega) (fun h => absurd h (by omega)) (fun h => ?_)
    have hki := hky i
    refine lv_aload_n hx hb dX1_winner_43 rfl (lv_at hl 0 rfl) ?_
    refine va_get (D := D) (ci := 1) (v := .ref (ad 8)) (C := RX1) (T := TX1) (N := 9) hx hb hts in_X1 hown hK hP 0 rfl rfl 8 (by decide) (hts _ q170) (fun _ h9 => h9) rfl dX1_winner_44 ?_
    refine lv_iload hx hb dX1_winner_47 (lv_at hl 4 rfl) ?_
    refine cs_zald hx hb hK hP 8 1 rfl rfl (k := i) (by omega) (by decide) dX1_winner_49 ?_
    refine cs_zeq (tgt := 87) hx hb dX1_winner_50 (by decide) (fun h1 => ?_) (fun h1 => ?_)
    · refine lv_iinc (v := nI (i + 1)) (lv' := [(4, .int (nI (i + 1))), (0, .ref (ad 0)), (1, .int (nI z)), (2, .int (nI k)), (3, .int (cs_o o))]) hx hb dX1_winner_87 hl (k := 4) rfl (cs_inc _) (by decide) rfl (fun ls hl => ?_)
      refine lv_goto (tgt := 34) hx hb dX1_winner_90 (by decide) ?_
      exact ih (i + 1) (by omega) o (cs_W_skip ho (fun q => absurd (((h0 i h).symm.trans h1).symm.trans q.1) (by decide))) ls (lv_sub hl [1, 2, 3, 4, 0] rfl)
    · have hVi : V i = true := (h0 i h).symm.trans h1
      refine lv_aload_n hx hb dX1_winner_53 rfl (lv_at hl 0 rfl) ?_
      refine va_get (D := D) (ci := 1) (v := .ref (ad 1)) (C := RX1) (T := TX1) (N := 9) hx hb hts in_X1 hown hK hP 0 rfl rfl 1 (by decide) (hts _ q163) (fun _ h9 => h9) rfl dX1_winner_54 ?_
      refine lv_iload hx hb dX1_winner_57 (lv_at hl 4 rfl) ?_
      refine cs_iald hx hb hK hP 1 0 rfl rfl (k := i) (by omega) (by decide) dX1_winner_59 ?_
      refine lv_iload_n hx hb dX1_winner_60 rfl (lv_at hl 2 rfl) ?_
      refine cs_jne (tgt := 87) hx hb dX1_winner_61 (by decide) (by omega) (by omega) (fun h2 => ?_) (fun h2 => ?_)
      · refine lv_iinc (v := nI (i + 1)) (lv' := [(4, .int (nI (i + 1))), (0, .ref (ad 0)), (1, .int (nI z)), (2, .int (nI k)), (3, .int (cs_o o))]) hx hb dX1_winner_87 hl (k := 4) rfl (cs_inc _) (by decide) rfl (fun ls hl => ?_)
        refine lv_goto (tgt := 34) hx hb dX1_winner_90 (by decide) ?_
        exact ih (i + 1) (by omega) o (cs_W_skip ho (fun q => h2 q.2)) ls (lv_sub hl [1, 2, 3, 4, 0] rfl)
      · refine lv_iload_n hx hb dX1_winner_64 rfl (lv_at hl 3 rfl) ?_
        cases o with
        | none =>
          refine lv_if_lt (tgt := 84) hx hb dX1_winner_65 (by decide) (fun h3 => ?_) (fun h3 => absurd (by decide) h3)
          refine lv_iload hx hb dX1_winner_84 (lv_at hl 4 rfl) ?_
          refine lv_istore_n (lv' := [(3, .int (nI i)), (0, .ref (ad 0)), (1, .int (nI z)), (2, .int (nI k)), (4, .int (nI i))]) hx hb dX1_winner_86 rfl hl (by decide) rfl (fun ls hl => ?_)
          refine lv_iinc (v := nI (i + 1)) (lv' := [(4, .int (nI (i + 1))), (3, .int (nI i)), (0, .ref (ad 0)), (1, .int (nI z)), (2, .int (nI k))]) hx hb dX1_winner_87 hl (k := 4) rfl (cs_inc _) (by decide) rfl (fun ls hl => ?_)
          refine lv_goto (tgt := 34) hx hb dX1_winner_90 (by decide) ?_
          exact ih (i + 1) (by omega) (some i) (cs_W_new ho hVi h2) ls (lv_sub hl [2, 3, 4, 1, 0] rfl)
        | some j =>
          have hj : j < i := ho.1
          have hl : lv_has ls 5 [(0, .ref (ad 0)), (1, .int (nI z)), (2, .int (nI k)), (3, .int (nI j)), (4, .int (nI i))] := hl
          refine lv_if_lt (tgt := 84) hx hb dX1_winner_65 (by decide) (fun h3 => absurd h3 (nI_pos (by omega))) (fun h3 => ?_)
          refine lv_aload_n hx hb dX1_winner_68 rfl (lv_at hl 0 rfl) ?_
          refine va_get (D := D) (ci := 1) (v := .ref (ad 3)) (C := RX1) (T := TX1) (N := 9) hx hb hts in_X1 hown hK hP 0 rfl rfl 3 (by decide) (hts _ q165) (fun _ h9 => h9) rfl dX1_winner_69 ?_
          refine lv_iload hx hb dX1_winner_72 (lv_at hl 4 rfl) ?_
          refine cs_iald hx hb hK hP 3 0 rfl rfl (k := i) (by omega) (by decide) dX1_winner_74 ?_
          refine lv_aload_n hx hb dX1_winner_75 rfl (lv_at hl 0 rfl) ?_
          refine va_get (D := D) (ci := 1) (v := .ref (ad 3)) (C := RX1) (T := TX1) (N := 9) hx hb hts in_X1 hown hK hP 0 rfl rfl 3 (by decide) (hts _ q165) (fun _ h9 => h9) rfl dX1_winner_76 ?_
          refine lv_iload_n hx hb dX1_winner_79 rfl (lv_at hl 3 rfl) ?_
          refine cs_iald hx hb hK hP 3 0 rfl rfl (k := j) (by omega) (by decide) dX1_winner_80 ?_
          refine lv_icmp_lt (tgt := 87) hx hb dX1_winner_81 (by decide) (fun h4 => ?_) (fun h4 => ?_)
          · refine lv_iinc (v := nI (i + 1)) (lv' := [(4, .int (nI (i + 1))), (0, .ref (ad 0)), (1, .int (nI z)), (2, .int (nI k)), (3, .int (nI j))]) hx hb dX1_winner_87 hl (k := 4) rfl (cs_inc _) (by decide) rfl (fun ls hl => ?_)
            refine lv_goto (tgt := 34) hx hb dX1_winner_90 (by decide) ?_
            exact ih (i + 1) (by omega) (some j) (cs_W_keep ho h4) ls (lv_sub hl [1, 2, 3, 4, 0] rfl)
          · refine lv_iload hx hb dX1_winner_84 (lv_at hl 4 rfl) ?_
            refine lv_istore_n (lv' := [(3, .int (nI i)), (0, .ref (ad 0)), (1, .int (nI z)), (2, .int (nI k)), (4, .int (nI i))]) hx hb dX1_winner_86 rfl hl (by decide) rfl (fun ls hl => ?_)
            refine lv_iinc (v := nI (i + 1)) (lv' := [(4, .int (nI (i + 1))), (3, .int (nI i)), (0, .ref (ad 0)), (1, .int (nI z)), (2, .int (nI k))]) hx hb dX1_winner_87 hl (k := 4) rfl (cs_inc _) (by decide) rfl (fun ls hl => ?_)
            refine lv_goto (tgt := 34) hx hb dX1_winner_90 (by decide) ?_
            exact ih (i + 1) (by omega) (some i) (cs_W_take ho hVi h2 (cs_nle.mp h4)) ls (lv_sub hl [2, 3, 4, 1, 0] rfl)

set_option maxHeartbeats 4000000 in
set_option maxRecDepth 100000 in
theorem cm_winner_3 (l : Launch) (D : va_G) {ad : Nat → Nat} {cI cZ : ClassId} {n : Nat} {ky : Nat → Nat} {vl : Nat → Int32} {sp : Nat → Int32} {nd : Nat → Bool} {cm : Nat → Bool} {hs : Nat → Bool} {pl : Nat → Nat} {sh : Nat → Bool} (z : Nat) (hz : z < 3) (hn : n ≤ 40) (V : Nat → Bool) (hV : ∀ v, v < n → (V v = true ↔ (cm (z * 40 + v) = true ∧ ∀ b, b < n → nd (v * 40 + b) = true → V b = true))) (hnd : ∀ v b, v < n → b < n → nd (v * 40 + b) = true → b < v) (hky : ∀ v, ky v < 6) (k : Nat) (hk : k < 6) (o : Option Nat) (ho : cs_W n ky sp V k o) : cs_MW l yX1_winner (ws_ yX1_winner cX1_winner 5 (some .int)) ({ frames := 2, cells := 0, slots := 0, locals := 47 }) D vwCl (cs_wM ad cI cZ n ky vl sp nd cm hs pl sh) (cs_tM cI cZ) [.ref (ad 0), .int (nI z), .int (nI k)] (fun r w' => r = cs_o o ∧ ∃ sh1 : Nat → Bool, w' = cs_wM ad cI cZ n ky vl sp nd cm hs pl sh1) := by
  intro sz
  refine Met.ofW (cc := cX1_winner) (maxL := 5) (ret := (some .int)) (by decide) rfl ?_
  intro p e s m args below meth c s₁ B hml hv9
  obtain ⟨rfl, hsz, hP, hK, hD0⟩ := hv9
  have hx := B.exec
  have hb := B.bytes
  have hr := B.returns
  have hts := atoms_spec (ws := (ws_ yX1_winner cX1_winner 5 (some .int))) B.pre
  have hts : ∀ w ∈ lw_all, w.before _ s = true := fun w h => hts w (List.mem_cons_of_mem _ h)
  have hown : s.vm.findClass RX1 = some m.cls := findClass_of_methodNamed B.named
  have hlocks := B.notSynchronized
  subst hsz
  have hD := hD0.self (sz := s.heap.size)
  generalize hAe : va_A (cs_wM ad cI cZ n ky vl sp nd cm hs pl sh) s.heap.size = A at hD ⊢
  have hA : ∀ q : Nat, s.heap.size ≤ q → A q := fun q h => by rw [← hAe]; exact Or.inr h
  have hS : va_S A s.heap s.heap [] := va_S.rf
  have hP : va_P D vwCl (cs_wM ad cI cZ n ky vl sp nd cm hs pl sh) s.heap := hP
  have hl := lv_entry ([.ref (ad 0), .int (nI z), .int (nI k)]) (n := 5) (Nat.le_of_ble_eq_true rfl)
  rw [lg_entry_eq]
  generalize (lg_sl ([.ref (ad 0), .int (nI z), .int (nI k)]) ++ List.replicate (5 - (lg_sl ([.ref (ad 0), .int (nI z), .int (nI k)])).length) Slot.unset).toArray = ls at hl ⊢
  have hl : lv_has ls 5 [(0, .ref (ad 0)), (1, .int (nI z)), (2, .int (nI k))] := hl
  refine lv_aload_n hx hb dX1_winner_0 rfl (lv_at hl 0 rfl) ?_
  refine lv_iload_n hx hb dX1_winner_1 rfl (lv_at hl 1 rfl) ?_
  refine cs_callRV (C := RX1) (As := [.int (nI z)]) (rest := []) ⟨hx, hb, hml, hown, hts⟩ (cs_three_k l D hz) (cwV 1 hts (lw_V q195 q197 qs6 q13 q198) rfl rfl rfl (by decide +kernel) ⟨Nat.le_of_ble_eq_true rfl, Nat.le_of_ble_eq_true rfl⟩) (va_recv hK hP (ci := 1) (q0 := 0) rfl rfl) cs_P0 hK hP hS hA rfl hl.1 rfl (Nat.le_of_ble_eq_true rfl) dX1_winner_2 ⟨Nat.zero_le _, Nat.zero_le _⟩ (fun H locs hP hS => ?_)
  refine cs_zne (tgt := 11) hx hb dX1_winner_5 (by decide) (fun h9 => ?_) (fun h9 => absurd h9 (by decide))
  refine lv_aload_n hx hb dX1_winner_11 rfl (lv_at hl 0 rfl) ?_
  refine lv_iload_n hx hb dX1_winner_12 rfl (lv_at hl 2 rfl) ?_
  refine cs_callRV (C := RX1) (As := [.int (nI k)]) (rest := []) ⟨hx, hb, hml, hown, hts⟩ (cs_isKey_k l D hk) (cwV 1 hts (lw_V q199 q201 qs7 q13 q202) rfl rfl rfl (by decide +kernel) ⟨Nat.le_of_ble_eq_true rfl, Nat.le_of_ble_eq_true rfl⟩) (va_recv hK hP (ci := 1) (q0 := 0) rfl rfl) cs_P0 hK hP hS hA rfl hl.1 rfl (Nat.le_of_ble_eq_true rfl) dX1_winner_13 ⟨Nat.zero_le _, Nat.zero_le _⟩ (fun H locs hP hS => ?_)
  refine cs_zne (tgt := 22) hx hb dX1_winner_16 (by decide) (fun h9 => ?_) (fun h9 => absurd h9 (by decide))
  refine lv_aload_n hx hb dX1_winner_22 rfl (lv_at hl 0 rfl) ?_
  refine lv_iload_n hx hb dX1_winner_23 rfl (lv_at hl 1 rfl) ?_
  refine cs_callWV (C := RX1) (As := [.int (nI z)]) (rest := []) ⟨hx, hb, hml, hown, hts⟩ (cs_sweep l D z hz hn V hV hnd) (cwV 1 hts (lw_V q211 q213 qs8 q13 q214) rfl rfl rfl (by decide +kernel) ⟨Nat.le_of_ble_eq_true rfl, Nat.le_of_ble_eq_true rfl⟩) (va_recv hK hP (ci := 1) (q0 := 0) rfl rfl) hK hP hD hS hA rfl hl.1 rfl (Nat.le_of_ble_eq_true rfl) dX1_winner_24 ⟨Nat.zero_le _, Nat.zero_le _⟩ (fun r w' H locs hq hP hD hS => ?_)
  obtain ⟨rfl, sh1, h0, rfl⟩ := hq
  refine lv_pop hx hb dX1_winner_27 rfl ?_
  refine lv_bipush (v := cs_o none) hx hb dX1_winner_28 (by decide) ?_
  refine lv_istore_n (lv' := [(3, .int (cs_o none)), (0, .ref (ad 0)), (1, .int (nI z)), (2, .int (nI k))]) hx hb dX1_winner_30 rfl hl (by decide) rfl (fun ls hl => ?_)
  refine lv_iconst (v := nI 0) hx hb dX1_winner_31 (by decide) ?_
  refine lv_istore (lv' := [(4, .int (nI 0)), (3, .int (cs_o none)), (0, .ref (ad 0)), (1, .int (nI z)), (2, .int (nI k))]) hx hb dX1_winner_32 hl (by decide) rfl (fun ls hl => ?_)
  refine cm_winner_loop hx hb hml hown hts hA ⟨Nat.zero_le _, Nat.zero_le _⟩ hK z k hk hn hky V h0 hP (fun o' ho' ls hl => ?_) n 0 (by omega) none cs_W_0 ls (lv_sub hl [2, 3, 4, 1, 0] rfl)
  have ho9 := cs_W_uniq ho' ho
  subst ho9
  refine lv_iload_n hx hb dX1_winner_93 rfl (lv_at hl 3 rfl) ?_
  exact W.iret (v := (cs_o o')) hx hb hr (fun t ht hW => ⟨⟨(cs_o o'), cs_wM ad cI cZ n ky vl sp nd cm hs pl sh1, rfl, ⟨rfl, sh1, rfl⟩, by rw [ht]; exact hP, hD⟩, hS.F ht⟩) hS.2.2 dX1_winner_94

set_option maxHeartbeats 4000000 in
set_option maxRecDepth 100000 in
theorem cm_read_1 (l : Launch) (D : va_G) {ad : Nat → Nat} {cI cZ : ClassId} {n : Nat} {ky : Nat → Nat} {vl : Nat → Int32} {sp : Nat → Int32} {nd : Nat → Bool} {cm : Nat → Bool} {hs : Nat → Bool} {pl : Nat → Nat} {sh : Nat → Bool} {p0 p1 : Int32} (h : cs_bad p0 = true) : cs_MR l yX1_read (ws_ yX1_read cX1_read 4 (some .int)) ({ frames := 3, cells := 0, slots := 0, locals := 71 }) D vwCl (cs_wM ad cI cZ n ky vl sp nd cm hs pl sh) (cs_tM cI cZ) [.ref (ad 0), .int p0, .int p1] (-1) := by
  intro sz
  refine Met.ofW (cc := cX1_read) (maxL := 4) (ret := (some .int)) (by decide) rfl ?_
  intro p e s m args below meth c s₁ B hml hv9
  obtain ⟨rfl, hsz, hP, hK⟩ := hv9
  have hx := B.exec
  have hb := B.bytes
  have hr := B.returns
  have hts := atoms_spec (ws := (ws_ yX1_read cX1_read 4 (some .int))) B.pre
  have hts : ∀ w ∈ lw_all, w.before _ s = true := fun w h => hts w (List.mem_cons_of_mem _ h)
  have hown : s.vm.findClass RX1 = some m.cls := findClass_of_methodNamed B.named
  have hlocks := B.notSynchronized
  subst hsz
  generalize hAe : va_A [] s.heap.size = A
  have hA : ∀ q : Nat, s.heap.size ≤ q → A q := fun q h => by rw [← hAe]; exact Or.inr h
  have hS : va_S A s.heap s.heap [] := va_S.rf
  have hP : va_P D vwCl (cs_wM ad cI cZ n ky vl sp nd cm hs pl sh) s.heap := hP
  have hl := lv_entry ([.ref (ad 0), .int p0, .int p1]) (n := 4) (Nat.le_of_ble_eq_true rfl)
  rw [lg_entry_eq]
  generalize (lg_sl ([.ref (ad 0), .int p0, .int p1]) ++ List.replicate (4 - (lg_sl ([.ref (ad 0), .int p0, .int p1])).length) Slot.unset).toArray = ls at hl ⊢
  have hl : lv_has ls 4 [(0, .ref (ad 0)), (1, .int p0), (2, .int p1)] := hl
  refine lv_aload_n hx hb dX1_read_0 rfl (lv_at hl 0 rfl) ?_
  refine lv_iload_n hx hb dX1_read_1 rfl (lv_at hl 1 rfl) ?_
  refine cs_callRV (C := RX1) (As := [.int p0]) (rest := []) ⟨hx, hb, hml, hown, hts⟩ (cs_three_t l D h) (cwV 1 hts (lw_V q195 q197 qs6 q13 q198) rfl rfl rfl (by decide +kernel) ⟨Nat.le_of_ble_eq_true rfl, Nat.le_of_ble_eq_true rfl⟩) (va_recv hK hP (ci := 1) (q0 := 0) rfl rfl) cs_P0 hK hP hS hA rfl hl.1 rfl (Nat.le_of_ble_eq_true rfl) dX1_read_2 ⟨Nat.zero_le _, Nat.zero_le _⟩ (fun H locs hP hS => ?_)
  refine cs_zne (tgt := 10) hx hb dX1_read_5 (by decide) (fun h9 => absurd h9 (by decide)) (fun h9 => ?_)
  refine lv_iconst (v := -1) hx hb dX1_read_8 (by decide) ?_
  exact W.iret (v := (-1)) hx hb hr (fun t ht hW => ⟨⟨(-1), (), rfl, rfl, trivial⟩, hS.F ht⟩) hS.2.2 dX1_read_9

set_option maxHeartbeats 4000000 in
set_option maxRecDepth 100000 in
theorem cm_read_2 (l : Launch) (D : va_G) {ad : Nat → Nat} {cI cZ : ClassId} {n : Nat} {ky : Nat → Nat} {vl : Nat → Int32} {sp : Nat → Int32} {nd : Nat → Bool} {cm : Nat → Bool} {hs : Nat → Bool} {pl : Nat → Nat} {sh : Nat → Bool} (u : Nat) {p1 : Int32} (hu : u < 3) (h : cs_nk p1 = true) : cs_MR l yX1_read (ws_ yX1_read cX1_read 4 (some .int)) ({ frames := 3, cells := 0, slots := 0, locals := 71 }) D vwCl (cs_wM ad cI cZ n ky vl sp nd cm hs pl sh) (cs_tM cI cZ) [.ref (ad 0), .int (nI u), .int p1] (-2) := by
  intro sz
  refine Met.ofW (cc := cX1_read) (maxL := 4) (ret := (some .int)) (by decide) rfl ?_
  intro p e s m args below meth c s₁ B hml hv9
  obtain ⟨rfl, hsz, hP, hK⟩ := hv9
  have hx := B.exec
  have hb := B.bytes
  have hr := B.returns
  have hts := atoms_spec (ws := (ws_ yX1_read cX1_read 4 (some .int))) B.pre
  have hts : ∀ w ∈ lw_all, w.before _ s = true := fun w h => hts w (List.mem_cons_of_mem _ h)
  have hown : s.vm.findClass RX1 = some m.cls := findClass_of_methodNamed B.named
  have hlocks := B.notSynchronized
  subst hsz
  generalize hAe : va_A [] s.heap.size = A
  have hA : ∀ q : Nat, s.heap.size ≤ q → A q := fun q h => by rw [← hAe]; exact Or.inr h
  have hS : va_S A s.heap s.heap [] := va_S.rf
  have hP : va_P D vwCl (cs_wM ad cI cZ n ky vl sp nd cm hs pl sh) s.heap := hP
  have hl := lv_entry ([.ref (ad 0), .int (nI u), .int p1]) (n := 4) (Nat.le_of_ble_eq_true rfl)
  rw [lg_entry_eq]
  generalize (lg_sl ([.ref (ad 0), .int (nI u), .int p1]) ++ List.replicate (4 - (lg_sl ([.ref (ad 0), .int (nI u), .int p1])).length) Slot.unset).toArray = ls at hl ⊢
  have hl : lv_has ls 4 [(0, .ref (ad 0)), (1, .int (nI u)), (2, .int p1)] := hl
  refine lv_aload_n hx hb dX1_read_0 rfl (lv_at hl 0 rfl) ?_
  refine lv_iload_n hx hb dX1_read_1 rfl (lv_at hl 1 rfl) ?_
  refine cs_callRV (C := RX1) (As := [.int (nI u)]) (rest := []) ⟨hx, hb, hml, hown, hts⟩ (cs_three_k l D hu) (cwV 1 hts (lw_V q195 q197 qs6 q13 q198) rfl rfl rfl (by decide +kernel) ⟨Nat.le_of_ble_eq_true rfl, Nat.le_of_ble_eq_true rfl⟩) (va_recv hK hP (ci := 1) (q0 := 0) rfl rfl) cs_P0 hK hP hS hA rfl hl.1 rfl (Nat.le_of_ble_eq_true rfl) dX1_read_2 ⟨Nat.zero_le _, Nat.zero_le _⟩ (fun H locs hP hS => ?_)
  refine cs_zne (tgt := 10) hx hb dX1_read_5 (by decide) (fun h9 => ?_) (fun h9 => absurd h9 (by decide))
  refine lv_aload_n hx hb dX1_read_10 rfl (lv_at hl 0 rfl) ?_
  refine lv_iload_n hx hb dX1_read_11 rfl (lv_at hl 2 rfl) ?_
  refine cs_callRV (C := RX1) (As := [.int p1]) (rest := []) ⟨hx, hb, hml, hown, hts⟩ (cs_isKey_t l D h) (cwV 1 hts (lw_V q199 q201 qs7 q13 q202) rfl rfl rfl (by decide +kernel) ⟨Nat.le_of_ble_eq_true rfl, Nat.le_of_ble_eq_true rfl⟩) (va_recv hK hP (ci := 1) (q0 := 0) rfl rfl) cs_P0 hK hP hS hA rfl hl.1 rfl (Nat.le_of_ble_eq_true rfl) dX1_read_12 ⟨Nat.zero_le _, Nat.zero_le _⟩ (fun H locs hP hS => ?_)
  refine cs_zne (tgt := 21) hx hb dX1_read_15 (by decide) (fun h9 => absurd h9 (by decide)) (fun h9 => ?_)
  refine lv_bipush (v := -2) hx hb dX1_read_18 (by decide) ?_
  exact W.iret (v := (-2)) hx hb hr (fun t ht hW => ⟨⟨(-2), (), rfl, rfl, trivial⟩, hS.F ht⟩) hS.2.2 dX1_read_20

set_option maxHeartbeats 4000000 in
set_option maxRecDepth 100000 in
theorem cm_read_3 (l : Launch) (D : va_G) {ad : Nat → Nat} {cI cZ : ClassId} {n : Nat} {ky : Nat → Nat} {vl : Nat → Int32} {sp : Nat → Int32} {nd : Nat → Bool} {cm : Nat → Bool} {hs : Nat → Bool} {pl : Nat → Nat} {sh : Nat → Bool} (u : Nat) (hu : u < 3) (hz : pl u < 3) (hn : n ≤ 40) (V : Nat → Bool) (hV : ∀ v, v < n → (V v = true ↔ (cm (pl u * 40 + v) = true ∧ ∀ b, b < n → nd (v * 40 + b) = true → V b = true))) (hnd : ∀ v b, v < n → b < n → nd (v * 40 + b) = true → b < v) (hky : ∀ v, ky v < 6) (k : Nat) (hk : k < 6) (ho : cs_W n ky sp V k none) : cs_MW l yX1_read (ws_ yX1_read cX1_read 4 (some .int)) ({ frames := 3, cells := 0, slots := 0, locals := 71 }) D vwCl (cs_wM ad cI cZ n ky vl sp nd cm hs pl sh) (cs_tM cI cZ) [.ref (ad 0), .int (nI u), .int (nI k)] (fun r w' => r = cs_o none ∧ ∃ sh1 : Nat → Bool, w' = cs_wM ad cI cZ n ky vl sp nd cm hs pl sh1) := by
  intro sz
  refine Met.ofW (cc := cX1_read) (maxL := 4) (ret := (some .int)) (by decide) rfl ?_
  intro p e s m args below meth c s₁ B hml hv9
  obtain ⟨rfl, hsz, hP, hK, hD0⟩ := hv9
  have hx := B.exec
  have hb := B.bytes
  have hr := B.returns
  have hts := atoms_spec (ws := (ws_ yX1_read cX1_read 4 (some .int))) B.pre
  have hts : ∀ w ∈ lw_all, w.before _ s = true := fun w h => hts w (List.mem_cons_of_mem _ h)
  have hown : s.vm.findClass RX1 = some m.cls := findClass_of_methodNamed B.named
  have hlocks := B.notSynchronized
  subst hsz
  have hD := hD0.self (sz := s.heap.size)
  generalize hAe : va_A (cs_wM ad cI cZ n ky vl sp nd cm hs pl sh) s.heap.size = A at hD ⊢
  have hA : ∀ q : Nat, s.heap.size ≤ q → A q := fun q h => by rw [← hAe]; exact Or.inr h
  have hS : va_S A s.heap s.heap [] := va_S.rf
  have hP : va_P D vwCl (cs_wM ad cI cZ n ky vl sp nd cm hs pl sh) s.heap := hP
  have hl := lv_entry ([.ref (ad 0), .int (nI u), .int (nI k)]) (n := 4) (Nat.le_of_ble_eq_true rfl)
  rw [lg_entry_eq]
  generalize (lg_sl ([.ref (ad 0), .int (nI u), .int (nI k)]) ++ List.replicate (4 - (lg_sl ([.ref (ad 0), .int (nI u), .int (nI k)])).length) Slot.unset).toArray = ls at hl ⊢
  have hl : lv_has ls 4 [(0, .ref (ad 0)), (1, .int (nI u)), (2, .int (nI k))] := hl
  refine lv_aload_n hx hb dX1_read_0 rfl (lv_at hl 0 rfl) ?_
  refine lv_iload_n hx hb dX1_read_1 rfl (lv_at hl 1 rfl) ?_
  refine cs_callRV (C := RX1) (As := [.int (nI u)]) (rest := []) ⟨hx, hb, hml, hown, hts⟩ (cs_three_k l D hu) (cwV 1 hts (lw_V q195 q197 qs6 q13 q198) rfl rfl rfl (by decide +kernel) ⟨Nat.le_of_ble_eq_true rfl, Nat.le_of_ble_eq_true rfl⟩) (va_recv hK hP (ci := 1) (q0 := 0) rfl rfl) cs_P0 hK hP hS hA rfl hl.1 rfl (Nat.le_of_ble_eq_true rfl) dX1_read_2 ⟨Nat.zero_le _, Nat.zero_le _⟩ (fun H locs hP hS => ?_)
  refine cs_zne (tgt := 10) hx hb dX1_read_5 (by decide) (fun h9 => ?_) (fun h9 => absurd h9 (by decide))
  refine lv_aload_n hx hb dX1_read_10 rfl (lv_at hl 0 rfl) ?_
  refine lv_iload_n hx hb dX1_read_11 rfl (lv_at hl 2 rfl) ?_
  refine cs_callRV (C := RX1) (As := [.int (nI k)]) (rest := []) ⟨hx, hb, hml, hown, hts⟩ (cs_isKey_k l D hk) (cwV 1 hts (lw_V q199 q201 qs7 q13 q202) rfl rfl rfl (by decide +kernel) ⟨Nat.le_of_ble_eq_true rfl, Nat.le_of_ble_eq_true rfl⟩) (va_recv hK hP (ci := 1) (q0 := 0) rfl rfl) cs_P0 hK hP hS hA rfl hl.1 rfl (Nat.le_of_ble_eq_true rfl) dX1_read_12 ⟨Nat.zero_le _, Nat.zero_le _⟩ (fun H locs hP hS => ?_)
  refine cs_zne (tgt := 21) hx hb dX1_read_15 (by decide) (fun h9 => ?_) (fun h9 => absurd h9 (by decide))
  refine lv_aload_n hx hb dX1_read_21 rfl (lv_at hl 0 rfl) ?_
  refine lv_aload_n hx hb dX1_read_22 rfl (lv_at hl 0 rfl) ?_
  refine va_get (D := D) (ci := 1) (v := .ref (ad 7)) (C := RX1) (T := TX1) (N := 9) hx hb hts in_X1 hown hK hP 0 rfl rfl 7 (by decide) (hts _ q169) (fun _ h9 => h9) rfl dX1_read_23 ?_
  refine lv_iload_n hx hb dX1_read_26 rfl (lv_at hl 1 rfl) ?_
  refine cs_iald hx hb hK hP 7 0 rfl rfl (k := u) (by omega) (by decide) dX1_read_27 ?_
  refine lv_iload_n hx hb dX1_read_28 rfl (lv_at hl 2 rfl) ?_
  refine cs_callWV (C := RX1) (As := [.int (nI (pl u)), .int (nI k)]) (rest := []) ⟨hx, hb, hml, hown, hts⟩ (cm_winner_3 l D (pl u) hz hn V hV hnd hky k hk none ho) (cwV 2 hts (lw_V q207 q208 q209 q13 q210) rfl rfl rfl (by decide +kernel) ⟨Nat.le_of_ble_eq_true rfl, Nat.le_of_ble_eq_true rfl⟩) (va_recv hK hP (ci := 1) (q0 := 0) rfl rfl) hK hP hD hS hA rfl hl.1 rfl (Nat.le_of_ble_eq_true rfl) dX1_read_29 ⟨Nat.zero_le _, Nat.zero_le _⟩ (fun r w' H locs hq hP hD hS => ?_)
  obtain ⟨rfl, sh1, rfl⟩ := hq
  refine lv_istore_n (lv' := [(3, .int (cs_o none)), (0, .ref (ad 0)), (1, .int (nI u)), (2, .int (nI k))]) hx hb dX1_read_32 rfl hl (by decide) rfl (fun ls hl => ?_)
  refine lv_iload_n hx hb dX1_read_33 rfl (lv_at hl 0 rfl) ?_
  refine lv_if_lt (tgt := 49) hx hb dX1_read_34 (by decide) (fun h7 => ?_) (fun h7 => absurd (by decide) h7)
  refine lv_iload_n hx hb dX1_read_49 rfl (lv_at hl 0 rfl) ?_
  exact W.iret (v := (cs_o none)) hx hb hr (fun t ht hW => ⟨⟨(cs_o none), cs_wM ad cI cZ n ky vl sp nd cm hs pl sh1, rfl, ⟨rfl, sh1, rfl⟩, by rw [ht]; exact hP, hD⟩, hS.F ht⟩) hS.2.2 dX1_read_50

set_option maxHeartbeats 4000000 in
set_option maxRecDepth 100000 in
theorem cm_read_4 (l : Launch) (D : va_G) {ad : Nat → Nat} {cI cZ : ClassId} {n : Nat} {ky : Nat → Nat} {vl : Nat → Int32} {sp : Nat → Int32} {nd : Nat → Bool} {cm : Nat → Bool} {hs : Nat → Bool} {pl : Nat → Nat} {sh : Nat → Bool} (u : Nat) (hu : u < 3) (hz : pl u < 3) (hn : n ≤ 40) (V : Nat → Bool) (hV : ∀ v, v < n → (V v = true ↔ (cm (pl u * 40 + v) = true ∧ ∀ b, b < n → nd (v * 40 + b) = true → V b = true))) (hnd : ∀ v b, v < n → b < n → nd (v * 40 + b) = true → b < v) (hky : ∀ v, ky v < 6) (k : Nat) (hk : k < 6) (v : Nat) (ho : cs_W n ky sp V k (some v)) : cs_MW l yX1_read (ws_ yX1_read cX1_read 4 (some .int)) ({ frames := 3, cells := 0, slots := 0, locals := 71 }) D vwCl (cs_wM ad cI cZ n ky vl sp nd cm hs pl sh) (cs_tM cI cZ) [.ref (ad 0), .int (nI u), .int (nI k)] (fun r w' => r = nI v ∧ ∃ sh1 : Nat → Bool, w' = cs_wM ad cI cZ n ky vl sp nd cm (va_up hs (u * 40 + v) true) pl sh1) := by
  intro sz
  refine Met.ofW (cc := cX1_read) (maxL := 4) (ret := (some .int)) (by decide) rfl ?_
  intro p e s m args below meth c s₁ B hml hv9
  obtain ⟨rfl, hsz, hP, hK, hD0⟩ := hv9
  have hx := B.exec
  have hb := B.bytes
  have hr := B.returns
  have hts := atoms_spec (ws := (ws_ yX1_read cX1_read 4 (some .int))) B.pre
  have hts : ∀ w ∈ lw_all, w.before _ s = true := fun w h => hts w (List.mem_cons_of_mem _ h)
  have hown : s.vm.findClass RX1 = some m.cls := findClass_of_methodNamed B.named
  have hlocks := B.notSynchronized
  subst hsz
  have hD := hD0.self (sz := s.heap.size)
  generalize hAe : va_A (cs_wM ad cI cZ n ky vl sp nd cm hs pl sh) s.heap.size = A at hD ⊢
  have hA : ∀ q : Nat, s.heap.size ≤ q → A q := fun q h => by rw [← hAe]; exact Or.inr h
  have hS : va_S A s.heap s.heap [] := va_S.rf
  have hP : va_P D vwCl (cs_wM ad cI cZ n ky vl sp nd cm hs pl sh) s.heap := hP
  have hl := lv_entry ([.ref (ad 0), .int (nI u), .int (nI k)]) (n := 4) (Nat.le_of_ble_eq_true rfl)
  rw [lg_entry_eq]
  generalize (lg_sl ([.ref (ad 0), .int (nI u), .int (nI k)]) ++ List.replicate (4 - (lg_sl ([.ref (ad 0), .int (nI u), .int (nI k)])).length) Slot.unset).toArray = ls at hl ⊢
  have hl : lv_has ls 4 [(0, .ref (ad 0)), (1, .int (nI u)), (2, .int (nI k))] := hl
  refine lv_aload_n hx hb dX1_read_0 rfl (lv_at hl 0 rfl) ?_
  refine lv_iload_n hx hb dX1_read_1 rfl (lv_at hl 1 rfl) ?_
  refine cs_callRV (C := RX1) (As := [.int (nI u)]) (rest := []) ⟨hx, hb, hml, hown, hts⟩ (cs_three_k l D hu) (cwV 1 hts (lw_V q195 q197 qs6 q13 q198) rfl rfl rfl (by decide +kernel) ⟨Nat.le_of_ble_eq_true rfl, Nat.le_of_ble_eq_true rfl⟩) (va_recv hK hP (ci := 1) (q0 := 0) rfl rfl) cs_P0 hK hP hS hA rfl hl.1 rfl (Nat.le_of_ble_eq_true rfl) dX1_read_2 ⟨Nat.zero_le _, Nat.zero_le _⟩ (fun H locs hP hS => ?_)
  refine cs_zne (tgt := 10) hx hb dX1_read_5 (by decide) (fun h9 => ?_) (fun h9 => absurd h9 (by decide))
  refine lv_aload_n hx hb dX1_read_10 rfl (lv_at hl 0 rfl) ?_
  refine lv_iload_n hx hb dX1_read_11 rfl (lv_at hl 2 rfl) ?_
  refine cs_callRV (C := RX1) (As := [.int (nI k)]) (rest := []) ⟨hx, hb, hml, hown, hts⟩ (cs_isKey_k l D hk) (cwV 1 hts (lw_V q199 q201 qs7 q13 q202) rfl rfl rfl (by decide +kernel) ⟨Nat.le_of_ble_eq_true rfl, Nat.le_of_ble_eq_true rfl⟩) (va_recv hK hP (ci := 1) (q0 := 0) rfl rfl) cs_P0 hK hP hS hA rfl hl.1 rfl (Nat.le_of_ble_eq_true rfl) dX1_read_12 ⟨Nat.zero_le _, Nat.zero_le _⟩ (fun H locs hP hS => ?_)
  refine cs_zne (tgt := 21) hx hb dX1_read_15 (by decide) (fun h9 => ?_) (fun h9 => absurd h9 (by decide))
  refine lv_aload_n hx hb dX1_read_21 rfl (lv_at hl 0 rfl) ?_
  refine lv_aload_n hx hb dX1_read_22 rfl (lv_at hl 0 rfl) ?_
  refine va_get (D := D) (ci := 1) (v := .ref (ad 7)) (C := RX1) (T := TX1) (N := 9) hx hb hts in_X1 hown hK hP 0 rfl rfl 7 (by decide) (hts _ q169) (fun _ h9 => h9) rfl dX1_read_23 ?_
  refine lv_iload_n hx hb dX1_read_26 rfl (lv_at hl 1 rfl) ?_
  refine cs_iald hx hb hK hP 7 0 rfl rfl (k := u) (by omega) (by decide) dX1_read_27 ?_
  refine lv_iload_n hx hb dX1_read_28 rfl (lv_at hl 2 rfl) ?_
  refine cs_callWV (C := RX1) (As := [.int (nI (pl u)), .int (nI k)]) (rest := []) ⟨hx, hb, hml, hown, hts⟩ (cm_winner_3 l D (pl u) hz hn V hV hnd hky k hk (some v) ho) (cwV 2 hts (lw_V q207 q208 q209 q13 q210) rfl rfl rfl (by decide +kernel) ⟨Nat.le_of_ble_eq_true rfl, Nat.le_of_ble_eq_true rfl⟩) (va_recv hK hP (ci := 1) (q0 := 0) rfl rfl) hK hP hD hS hA rfl hl.1 rfl (Nat.le_of_ble_eq_true rfl) dX1_read_29 ⟨Nat.zero_le _, Nat.zero_le _⟩ (fun r w' H locs hq hP hD hS => ?_)
  obtain ⟨rfl, sh1, rfl⟩ := hq
  refine cs_ti (y := (nI v)) rfl ?_
  have hv : v < n := ho.1
  refine lv_istore_n (lv' := [(3, .int (nI v)), (0, .ref (ad 0)), (1, .int (nI u)), (2, .int (nI k))]) hx hb dX1_read_32 rfl hl (by decide) rfl (fun ls hl => ?_)
  refine lv_iload_n hx hb dX1_read_33 rfl (lv_at hl 0 rfl) ?_
  refine lv_if_lt (tgt := 49) hx hb dX1_read_34 (by decide) (fun h7 => absurd h7 (nI_pos (by omega))) (fun h7 => ?_)
  refine lv_aload_n hx hb dX1_read_37 rfl (lv_at hl 1 rfl) ?_
  refine va_get (D := D) (ci := 1) (v := .ref (ad 6)) (C := RX1) (T := TX1) (N := 9) hx hb hts in_X1 hown hK hP 0 rfl rfl 6 (by decide) (hts _ q168) (fun _ h9 => h9) rfl dX1_read_38 ?_
  refine lv_iload_n hx hb dX1_read_41 rfl (lv_at hl 2 rfl) ?_
  refine lv_bipush (v := nI 40) hx hb dX1_read_42 (by decide) ?_
  refine cs_imul hx hb dX1_read_44 ?_
  refine lv_iload_n hx hb dX1_read_45 rfl (lv_at hl 0 rfl) ?_
  refine cs_iadd hx hb dX1_read_46 ?_
  refine lv_iconst (v := cs_b true) hx hb dX1_read_47 (by decide) ?_
  refine cs_zast (f := hs) (k := (u * 40) + v) (x := true) hx hb hK hP hD hS 6 1 rfl rfl (by omega) (by decide) dX1_read_48 (fun H locs hP hD hS => ?_)
  have hP : va_P D vwCl (cs_wM ad cI cZ n ky vl sp nd cm (va_up hs ((u * 40) + v) true) pl sh1) H := hP
  have hD : va_D A (cs_wM ad cI cZ n ky vl sp nd cm (va_up hs ((u * 40) + v) true) pl sh1) := hD
  refine lv_iload_n hx hb dX1_read_49 rfl (lv_at hl 0 rfl) ?_
  exact W.iret (v := (nI v)) hx hb hr (fun t ht hW => ⟨⟨(nI v), cs_wM ad cI cZ n ky vl sp nd cm (va_up hs ((u * 40) + v) true) pl sh1, rfl, ⟨rfl, sh1, rfl⟩, by rw [ht]; exact hP, hD⟩, hS.F ht⟩) hS.2.2 dX1_read_50

set_option maxHeartbeats 4000000 in
set_option maxRecDepth 100000 in
theorem cm_agree_1 (l : Launch) (D : va_G) {ad : Nat → Nat} {cI cZ : ClassId} {n : Nat} {ky : Nat → Nat} {vl : Nat → Int32} {sp : Nat → Int32} {nd : Nat → Bool} {cm : Nat → Bool} {hs : Nat → Bool} {pl : Nat → Nat} {sh : Nat → Bool} {p0 p1 : Int32} (h : cs_bad p0 = true) : cs_MR l yX1_agree (ws_ yX1_agree cX1_agree 5 (some .int)) ({ frames := 3, cells := 0, slots := 0, locals := 71 }) D vwCl (cs_wM ad cI cZ n ky vl sp nd cm hs pl sh) (cs_tM cI cZ) [.ref (ad 0), .int p0, .int p1] (-4) := by
  intro sz
  refine Met.ofW (cc := cX1_agree) (maxL := 5) (ret := (some .int)) (by decide) rfl ?_
  intro p e s m args below meth c s₁ B hml hv9
  obtain ⟨rfl, hsz, hP, hK⟩ := hv9
  have hx := B.exec
  have hb := B.bytes
  have hr := B.returns
  have hts := atoms_spec (ws := (ws_ yX1_agree cX1_agree 5 (some .int))) B.pre
  have hts : ∀ w ∈ lw_all, w.before _ s = true := fun w h => hts w (List.mem_cons_of_mem _ h)
  have hown : s.vm.findClass RX1 = some m.cls := findClass_of_methodNamed B.named
  have hlocks := B.notSynchronized
  subst hsz
  generalize hAe : va_A [] s.heap.size = A
  have hA : ∀ q : Nat, s.heap.size ≤ q → A q := fun q h => by rw [← hAe]; exact Or.inr h
  have hS : va_S A s.heap s.heap [] := va_S.rf
  have hP : va_P D vwCl (cs_wM ad cI cZ n ky vl sp nd cm hs pl sh) s.heap := hP
  have hl := lv_entry ([.ref (ad 0), .int p0, .int p1]) (n := 5) (Nat.le_of_ble_eq_true rfl)
  rw [lg_entry_eq]
  generalize (lg_sl ([.ref (ad 0), .int p0, .int p1]) ++ List.replicate (5 - (lg_sl ([.ref (ad 0), .int p0, .int p1])).length) Slot.unset).toArray = ls at hl ⊢
  have hl : lv_has ls 5 [(0, .ref (ad 0)), (1, .int p0), (2, .int p1)] := hl
  refine lv_aload_n hx hb dX1_agree_0 rfl (lv_at hl 0 rfl) ?_
  refine lv_iload_n hx hb dX1_agree_1 rfl (lv_at hl 1 rfl) ?_
  refine cs_callRV (C := RX1) (As := [.int p0]) (rest := []) ⟨hx, hb, hml, hown, hts⟩ (cs_three_t l D h) (cwV 1 hts (lw_V q195 q197 qs6 q13 q198) rfl rfl rfl (by decide +kernel) ⟨Nat.le_of_ble_eq_true rfl, Nat.le_of_ble_eq_true rfl⟩) (va_recv hK hP (ci := 1) (q0 := 0) rfl rfl) cs_P0 hK hP hS hA rfl hl.1 rfl (Nat.le_of_ble_eq_true rfl) dX1_agree_2 ⟨Nat.zero_le _, Nat.zero_le _⟩ (fun H locs hP hS => ?_)
  refine cs_zeq (tgt := 16) hx hb dX1_agree_5 (by decide) (fun h9 => ?_) (fun h9 => absurd h9 (by decide))
  refine lv_bipush (v := -4) hx hb dX1_agree_16 (by decide) ?_
  exact W.iret (v := (-4)) hx hb hr (fun t ht hW => ⟨⟨(-4), (), rfl, rfl, trivial⟩, hS.F ht⟩) hS.2.2 dX1_agree_18

set_option maxHeartbeats 4000000 in
set_option maxRecDepth 100000 in
theorem cm_agree_2 (l : Launch) (D : va_G) {ad : Nat → Nat} {cI cZ : ClassId} {n : Nat} {ky : Nat → Nat} {vl : Nat → Int32} {sp : Nat → Int32} {nd : Nat → Bool} {cm : Nat → Bool} {hs : Nat → Bool} {pl : Nat → Nat} {sh : Nat → Bool} (z : Nat) {p1 : Int32} (hz : z < 3) (h : cs_bad p1 = true) : cs_MR l yX1_agree (ws_ yX1_agree cX1_agree 5 (some .int)) ({ frames := 3, cells := 0, slots := 0, locals := 71 }) D vwCl (cs_wM ad cI cZ n ky vl sp nd cm hs pl sh) (cs_tM cI cZ) [.ref (ad 0), .int (nI z), .int p1] (-4) := by
  intro sz
  refine Met.ofW (cc := cX1_agree) (maxL := 5) (ret := (some .int)) (by decide) rfl ?_
  intro p e s m args below meth c s₁ B hml hv9
  obtain ⟨rfl, hsz, hP, hK⟩ := hv9
  have hx := B.exec
  have hb := B.bytes
  have hr := B.returns
  have hts := atoms_spec (ws := (ws_ yX1_agree cX1_agree 5 (some .int))) B.pre
  have hts : ∀ w ∈ lw_all, w.before _ s = true := fun w h => hts w (List.mem_cons_of_mem _ h)
  have hown : s.vm.findClass RX1 = some m.cls := findClass_of_methodNamed B.named
  have hlocks := B.notSynchronized
  subst hsz
  generalize hAe : va_A [] s.heap.size = A
  have hA : ∀ q : Nat, s.heap.size ≤ q → A q := fun q h => by rw [← hAe]; exact Or.inr h
  have hS : va_S A s.heap s.heap [] := va_S.rf
  have hP : va_P D vwCl (cs_wM ad cI cZ n ky vl sp nd cm hs pl sh) s.heap := hP
  have hl := lv_entry ([.ref (ad 0), .int (nI z), .int p1]) (n := 5) (Nat.le_of_ble_eq_true rfl)
  rw [lg_entry_eq]
  generalize (lg_sl ([.ref (ad 0), .int (nI z), .int p1]) ++ List.replicate (5 - (lg_sl ([.ref (ad 0), .int (nI z), .int p1])).length) Slot.unset).toArray = ls at hl ⊢
  have hl : lv_has ls 5 [(0, .ref (ad 0)), (1, .int (nI z)), (2, .int p1)] := hl
  refine lv_aload_n hx hb dX1_agree_0 rfl (lv_at hl 0 rfl) ?_
  refine lv_iload_n hx hb dX1_agree_1 rfl (lv_at hl 1 rfl) ?_
  refine cs_callRV (C := RX1) (As := [.int (nI z)]) (rest := []) ⟨hx, hb, hml, hown, hts⟩ (cs_three_k l D hz) (cwV 1 hts (lw_V q195 q197 qs6 q13 q198) rfl rfl rfl (by decide +kernel) ⟨Nat.le_of_ble_eq_true rfl, Nat.le_of_ble_eq_true rfl⟩) (va_recv hK hP (ci := 1) (q0 := 0) rfl rfl) cs_P0 hK hP hS hA rfl hl.1 rfl (Nat.le_of_ble_eq_true rfl) dX1_agree_2 ⟨Nat.zero_le _, Nat.zero_le _⟩ (fun H locs hP hS => ?_)
  refine cs_zeq (tgt := 16) hx hb dX1_agree_5 (by decide) (fun h9 => absurd h9 (by decide)) (fun h9 => ?_)
  refine lv_aload_n hx hb dX1_agree_8 rfl (lv_at hl 0 rfl) ?_
  refine lv_iload_n hx hb dX1_agree_9 rfl (lv_at hl 2 rfl) ?_
  refine cs_callRV (C := RX1) (As := [.int p1]) (rest := []) ⟨hx, hb, hml, hown, hts⟩ (cs_three_t l D h) (cwV 1 hts (lw_V q195 q197 qs6 q13 q198) rfl rfl rfl (by decide +kernel) ⟨Nat.le_of_ble_eq_true rfl, Nat.le_of_ble_eq_true rfl⟩) (va_recv hK hP (ci := 1) (q0 := 0) rfl rfl) cs_P0 hK hP hS hA rfl hl.1 rfl (Nat.le_of_ble_eq_true rfl) dX1_agree_10 ⟨Nat.zero_le _, Nat.zero_le _⟩ (fun H locs hP hS => ?_)
  refine cs_zne (tgt := 19) hx hb dX1_agree_13 (by decide) (fun h9 => absurd h9 (by decide)) (fun h9 => ?_)
  refine lv_bipush (v := -4) hx hb dX1_agree_16 (by decide) ?_
  exact W.iret (v := (-4)) hx hb hr (fun t ht hW => ⟨⟨(-4), (), rfl, rfl, trivial⟩, hS.F ht⟩) hS.2.2 dX1_agree_18

set_option maxHeartbeats 4000000 in
set_option maxRecDepth 100000 in
theorem cm_agree_loop {p : Program} {l : Launch} {e : Env} {R : Room} {s : State} {m : MethodId} {args : Array Value} {below : List Frame} {meth : Method} {c : Code} {Q : State → Prop} {D : va_G} {A : Nat → Prop} {H0 : Heap} (hx : p.tables.exec = Jvm.exec) (hb : c.code = cX1_agree) (hml : c.maxLocals = 5) (hown : s.vm.findClass RX1 = some m.cls) (hts : ∀ w ∈ lw_all, w.before args s = true) (hA : ∀ q : Nat, H0.size ≤ q → A q) (hR : 3 ≤ R.frames ∧ 71 ≤ R.locals) {ad : Nat → Nat} {cI cZ : ClassId} (hK : va_K D vwCl (cs_tM cI cZ) s) {n : Nat} {ky : Nat → Nat} {vl : Nat → Int32} {sp : Nat → Int32} {nd : Nat → Bool} {cm : Nat → Bool} {hs : Nat → Bool} {pl : Nat → Nat} (z y : Nat) (hz : z < 3) (hy : y < 3) (hn : n ≤ 40) (V : Nat → Bool) (hV : ∀ v, v < n → (V v = true ↔ (cm (z * 40 + v) = true ∧ ∀ b, b < n → nd (v * 40 + b) = true → V b = true))) (hnd : ∀ v b, v < n → b < n → nd (v * 40 + b) = true → b < v) (Y : Nat → Bool) (hY : ∀ v, v < n → (Y v = true ↔ (cm (y * 40 + v) = true ∧ ∀ b, b < n → nd (v * 40 + b) = true → Y b = true))) (hky : ∀ v, ky v < 6) (oz oy : Nat → Option Nat) (hoz : ∀ k, k < 6 → cs_W n ky sp V k (oz k)) (hoy : ∀ k, k < 6 → cs_W n ky sp Y k (oy k)) (hend : ∀ sh : Nat → Bool, ∀ (H : Heap) (locs : List Loc), va_P D vwCl (cs_wM ad cI cZ n ky vl sp nd cm hs pl sh) H → va_D A (cs_wM ad cI cZ n ky vl sp nd cm hs pl sh) → va_S A H0 H locs → ∀ ls : Array Slot, lv_has ls 5 [(0, .ref (ad 0)), (1, .int (nI z)), (2, .int (nI y)), (3, .int (nI (cs_n (fun k => decide (oz k = oy k)) 6))), (4, .int (nI 6))] → W p l e R s m args below meth c H locs 0 0 Q (F0 m 57 ls [])) :
    ∀ (j i : Nat), i + j = 6 → ∀ sh : Nat → Bool, ∀ (H : Heap) (locs : List Loc), va_P D vwCl (cs_wM ad cI cZ n ky vl sp nd cm hs pl sh) H → va_D A (cs_wM ad cI cZ n ky vl sp nd cm hs pl sh) → va_S A H0 H locs → ∀ ls : Array Slot, lv_has ls 5 [(0, .ref (ad 0)), (1, .int (nI z)), (2, .int (nI y)), (3, .int (nI (cs_n (fun k => decide (oz k = oy k)) i))), (4, .int (nI i))] → W p l e R s m args below meth c H locs 0 0 Q (F0 m 24 ls []) := by
  intro j
  induction j with
  | zero =>
    intro i hi sh H locs hP hD hS ls hl
    refine lv_iload hx hb dX1_agree_24 (lv_at hl 4 rfl) ?_
    refine lv_bipush (v := nI 6) hx hb dX1_agree_26 (by decide) ?_
    refine cs_jge (tgt := 57) hx hb dX1_agree_28 (by decide) (by omega) (by omega) (fun h => ?_) (fun h => absurd h (by omega))
    have hi : i = 6 := by omega
    subst hi
    exact hend sh H locs hP hD hS ls hl
  | succ j ih =>
    intro i hi sh H locs hP hD hS ls hl
    refine lv_iload hx hb dX1_agree_24 (lv_at hl 4 rfl) ?_
    refine lv_bipush (v := nI 6) hx hb dX1_agree_26 (by decide) ?_
    refine cs_jge (tgt := 57) hx hb dX1_agree_28 (by decide) (by omega) (by omega) (fun h => absurd h (by omega)) (fun h => ?_)
    have b1 : ∀ j, oz i = some j → j < 2147483648 := fun j hj => by have h9 := hoz i h; rw [hj] at h9; have := h9.1; omega
    have b2 : ∀ j, oy i = some j → j < 2147483648 := fun j hj => by have h9 := hoy i h; rw [hj] at h9; have := h9.1; omega
    refine lv_aload_n hx hb dX1_agree_31 rfl (lv_at hl 0 rfl) ?_
    refine lv_iload_n hx hb dX1_agree_32 rfl (lv_at hl 1 rfl) ?_
    refine lv_iload hx hb dX1_agree_33 (lv_at hl 4 rfl) ?_
    refine cs_callWV (C := RX1) (As := [.int (nI z), .int (nI i)]) (rest := []) ⟨hx, hb, hml, hown, hts⟩ (cm_winner_3 l D z hz hn V hV hnd hky i h (oz i) (hoz i h)) (cwV 2 hts (lw_V q207 q208 q209 q13 q210) rfl rfl rfl (by decide +kernel) ⟨Nat.le_trans (Nat.le_of_ble_eq_true rfl) hR.1, Nat.le_trans (Nat.le_of_ble_eq_true rfl) hR.2⟩) (va_recv hK hP (ci := 1) (q0 := 0) rfl rfl) hK hP hD hS hA rfl hl.1 rfl (Nat.le_of_ble_eq_true rfl) dX1_agree_35 ⟨Nat.zero_le _, Nat.zero_le _⟩ (fun r w' H locs hq hP hD hS => ?_)
    obtain ⟨rfl, sh1, rfl⟩ := hq
    refine lv_aload_n hx hb dX1_agree_38 rfl (lv_at hl 0 rfl) ?_
    refine lv_iload_n hx hb dX1_agree_39 rfl (lv_at hl 2 rfl) ?_
    refine lv_iload hx hb dX1_agree_40 (lv_at hl 4 rfl) ?_
    refine cs_callWV (C := RX1) (As := [.int (nI y), .int (nI i)]) (rest := [.int (cs_o (oz i))]) ⟨hx, hb, hml, hown, hts⟩ (cm_winner_3 l D y hy hn Y hY hnd hky i h (oy i) (hoy i h)) (cwV 2 hts (lw_V q207 q208 q209 q13 q210) rfl rfl rfl (by decide +kernel) ⟨Nat.le_trans (Nat.le_of_ble_eq_true rfl) hR.1, Nat.le_trans (Nat.le_of_ble_eq_true rfl) hR.2⟩) (va_recv hK hP (ci := 1) (q0 := 0) rfl rfl) hK hP hD hS hA rfl hl.1 rfl (Nat.le_of_ble_eq_true rfl) dX1_agree_42 ⟨Nat.zero_le _, Nat.zero_le _⟩ (fun r w' H locs hq hP hD hS => ?_)
    obtain ⟨rfl, sh2, rfl⟩ := hq
    refine lv_icmp_ne (tgt := 51) hx hb dX1_agree_45 (by decide) (fun h2 => ?_) (fun h2 => ?_)
    · have h7 : (fun k => decide (oz k = oy k)) i = false := decide_eq_false (fun q => h2 (by rw [q]))
      refine lv_iinc (v := nI (i + 1)) (lv' := [(4, .int (nI (i + 1))), (0, .ref (ad 0)), (1, .int (nI z)), (2, .int (nI y)), (3, .int (nI (cs_n (fun k => decide (oz k = oy k)) i)))]) hx hb dX1_agree_51 hl (k := 4) rfl (cs_inc _) (by decide) rfl (fun ls hl => ?_)
      refine lv_goto (tgt := 24) hx hb dX1_agree_54 (by decide) ?_
      exact ih (i + 1) (by omega) sh2 H locs hP hD hS ls (by rw [cs_n_f h7]; exact lv_sub hl [1, 2, 3, 4, 0] rfl)
    · have h7 : (fun k => decide (oz k = oy k)) i = true := decide_eq_true ((cs_o_inj b1 b2).mp h2)
      refine lv_iinc (v := nI (cs_n (fun k => decide (oz k = oy k)) i + 1)) (lv' := [(3, .int (nI (cs_n (fun k => decide (oz k = oy k)) i + 1))), (0, .ref (ad 0)), (1, .int (nI z)), (2, .int (nI y)), (4, .int (nI i))]) hx hb dX1_agree_48 hl (k := 3) rfl (cs_inc _) (by decide) rfl (fun ls hl => ?_)
      refine lv_iinc (v := nI (i + 1)) (lv' := [(4, .int (nI (i + 1))), (3, .int (nI (cs_n (fun k => decide (oz k = oy k)) i + 1))), (0, .ref (ad 0)), (1, .int (nI z)), (2, .int (nI y))]) hx hb dX1_agree_51 hl (k := 4) rfl (cs_inc _) (by decide) rfl (fun ls hl => ?_)
      refine lv_goto (tgt := 24) hx hb dX1_agree_54 (by decide) ?_
      exact ih (i + 1) (by omega) sh2 H locs hP hD hS ls (by rw [cs_n_t h7]; exact lv_sub hl [2, 3, 4, 1, 0] rfl)

set_option maxHeartbeats 4000000 in
set_option maxRecDepth 100000 in
theorem cm_agree_3 (l : Launch) (D : va_G) {ad : Nat → Nat} {cI cZ : ClassId} {n : Nat} {ky : Nat → Nat} {vl : Nat → Int32} {sp : Nat → Int32} {nd : Nat → Bool} {cm : Nat → Bool} {hs : Nat → Bool} {pl : Nat → Nat} {sh : Nat → Bool} (z y : Nat) (hz : z < 3) (hy : y < 3) (hn : n ≤ 40) (V : Nat → Bool) (hV : ∀ v, v < n → (V v = true ↔ (cm (z * 40 + v) = true ∧ ∀ b, b < n → nd (v * 40 + b) = true → V b = true))) (hnd : ∀ v b, v < n → b < n → nd (v * 40 + b) = true → b < v) (Y : Nat → Bool) (hY : ∀ v, v < n → (Y v = true ↔ (cm (y * 40 + v) = true ∧ ∀ b, b < n → nd (v * 40 + b) = true → Y b = true))) (hky : ∀ v, ky v < 6) (oz oy : Nat → Option Nat) (hoz : ∀ k, k < 6 → cs_W n ky sp V k (oz k)) (hoy : ∀ k, k < 6 → cs_W n ky sp Y k (oy k)) : cs_MW l yX1_agree (ws_ yX1_agree cX1_agree 5 (some .int)) ({ frames := 3, cells := 0, slots := 0, locals := 71 }) D vwCl (cs_wM ad cI cZ n ky vl sp nd cm hs pl sh) (cs_tM cI cZ) [.ref (ad 0), .int (nI z), .int (nI y)] (fun r w' => r = nI (cs_n (fun k => decide (oz k = oy k)) 6) ∧ ∃ sh1 : Nat → Bool, w' = cs_wM ad cI cZ n ky vl sp nd cm hs pl sh1) := by
  intro sz
  refine Met.ofW (cc := cX1_agree) (maxL := 5) (ret := (some .int)) (by decide) rfl ?_
  intro p e s m args below meth c s₁ B hml hv9
  obtain ⟨rfl, hsz, hP, hK, hD0⟩ := hv9
  have hx := B.exec
  have hb := B.bytes
  have hr := B.returns
  have hts := atoms_spec (ws := (ws_ yX1_agree cX1_agree 5 (some .int))) B.pre
  have hts : ∀ w ∈ lw_all, w.before _ s = true := fun w h => hts w (List.mem_cons_of_mem _ h)
  have hown : s.vm.findClass RX1 = some m.cls := findClass_of_methodNamed B.named
  have hlocks := B.notSynchronized
  subst hsz
  have hD := hD0.self (sz := s.heap.size)
  generalize hAe : va_A (cs_wM ad cI cZ n ky vl sp nd cm hs pl sh) s.heap.size = A at hD ⊢
  have hA : ∀ q : Nat, s.heap.size ≤ q → A q := fun q h => by rw [← hAe]; exact Or.inr h
  have hS : va_S A s.heap s.heap [] := va_S.rf
  have hP : va_P D vwCl (cs_wM ad cI cZ n ky vl sp nd cm hs pl sh) s.heap := hP
  have hl := lv_entry ([.ref (ad 0), .int (nI z), .int (nI y)]) (n := 5) (Nat.le_of_ble_eq_true rfl)
  rw [lg_entry_eq]
  generalize (lg_sl ([.ref (ad 0), .int (nI z), .int (nI y)]) ++ List.replicate (5 - (lg_sl ([.ref (ad 0), .int (nI z), .int (nI y)])).length) Slot.unset).toArray = ls at hl ⊢
  have hl : lv_has ls 5 [(0, .ref (ad 0)), (1, .int (nI z)), (2, .int (nI y))] := hl
  refine lv_aload_n hx hb dX1_agree_0 rfl (lv_at hl 0 rfl) ?_
  refine lv_iload_n hx hb dX1_agree_1 rfl (lv_at hl 1 rfl) ?_
  refine cs_callRV (C := RX1) (As := [.int (nI z)]) (rest := []) ⟨hx, hb, hml, hown, hts⟩ (cs_three_k l D hz) (cwV 1 hts (lw_V q195 q197 qs6 q13 q198) rfl rfl rfl (by decide +kernel) ⟨Nat.le_of_ble_eq_true rfl, Nat.le_of_ble_eq_true rfl⟩) (va_recv hK hP (ci := 1) (q0 := 0) rfl rfl) cs_P0 hK hP hS hA rfl hl.1 rfl (Nat.le_of_ble_eq_true rfl) dX1_agree_2 ⟨Nat.zero_le _, Nat.zero_le _⟩ (fun H locs hP hS => ?_)
  refine cs_zeq (tgt := 16) hx hb dX1_agree_5 (by decide) (fun h9 => absurd h9 (by decide)) (fun h9 => ?_)
  refine lv_aload_n hx hb dX1_agree_8 rfl (lv_at hl 0 rfl) ?_
  refine lv_iload_n hx hb dX1_agree_9 rfl (lv_at hl 2 rfl) ?_
  refine cs_callRV (C := RX1) (As := [.int (nI y)]) (rest := []) ⟨hx, hb, hml, hown, hts⟩ (cs_three_k l D hy) (cwV 1 hts (lw_V q195 q197 qs6 q13 q198) rfl rfl rfl (by decide +kernel) ⟨Nat.le_of_ble_eq_true rfl, Nat.le_of_ble_eq_true rfl⟩) (va_recv hK hP (ci := 1) (q0 := 0) rfl rfl) cs_P0 hK hP hS hA rfl hl.1 rfl (Nat.le_of_ble_eq_true rfl) dX1_agree_10 ⟨Nat.zero_le _, Nat.zero_le _⟩ (fun H locs hP hS => ?_)
  refine cs_zne (tgt := 19) hx hb dX1_agree_13 (by decide) (fun h9 => ?_) (fun h9 => absurd h9 (by decide))
  refine lv_iconst (v := nI 0) hx hb dX1_agree_19 (by decide) ?_
  refine lv_istore_n (lv' := [(3, .int (nI 0)), (0, .ref (ad 0)), (1, .int (nI z)), (2, .int (nI y))]) hx hb dX1_agree_20 rfl hl (by decide) rfl (fun ls hl => ?_)
  refine lv_iconst (v := nI 0) hx hb dX1_agree_21 (by decide) ?_
  refine lv_istore (lv' := [(4, .int (nI 0)), (3, .int (nI 0)), (0, .ref (ad 0)), (1, .int (nI z)), (2, .int (nI y))]) hx hb dX1_agree_22 hl (by decide) rfl (fun ls hl => ?_)
  refine cm_agree_loop hx hb hml hown hts hA ⟨Nat.le_of_ble_eq_true rfl, Nat.le_of_ble_eq_true rfl⟩ hK z y hz hy hn V hV hnd Y hY hky oz oy hoz hoy (fun sh1 H locs hP hD hS ls hl => ?_) 6 0 rfl sh _ _ hP hD hS ls (lv_sub hl [2, 3, 4, 1, 0] rfl)
  refine lv_iload_n hx hb dX1_agree_57 rfl (lv_at hl 3 rfl) ?_
  exact W.iret (v := (nI (cs_n (fun k => decide (oz k = oy k)) 6))) hx hb hr (fun t ht hW => ⟨⟨(nI (cs_n (fun k => decide (oz k = oy k)) 6)), cs_wM ad cI cZ n ky vl sp nd cm hs pl sh1, rfl, ⟨rfl, sh1, rfl⟩, by rw [ht]; exact hP, hD⟩, hS.F ht⟩) hS.2.2 dX1_agree_58

set_option maxHeartbeats 4000000 in
set_option maxRecDepth 100000 in
theorem cm_deliver_1 (l : Launch) (D : va_G) {ad : Nat → Nat} {cI cZ : ClassId} {n : Nat} {ky : Nat → Nat} {vl : Nat → Int32} {sp : Nat → Int32} {nd : Nat → Bool} {cm : Nat → Bool} {hs : Nat → Bool} {pl : Nat → Nat} {sh : Nat → Bool} {p0 p1 : Int32} (h : cs_nv n p0 = true) : cs_MR l yX1_deliver (ws_ yX1_deliver cX1_deliver 4 (some .int)) ({ frames := 3, cells := 0, slots := 0, locals := 71 }) D vwCl (cs_wM ad cI cZ n ky vl sp nd cm hs pl sh) (cs_tM cI cZ) [.ref (ad 0), .int p0, .int p1] (-5) := by
  intro sz
  refine Met.ofW (cc := cX1_deliver) (maxL := 4) (ret := (some .int)) (by decide) rfl ?_
  intro p e s m args below meth c s₁ B hml hv9
  obtain ⟨rfl, hsz, hP, hK⟩ := hv9
  have hx := B.exec
  have hb := B.bytes
  have hr := B.returns
  have hts := atoms_spec (ws := (ws_ yX1_deliver cX1_deliver 4 (some .int))) B.pre
  have hts : ∀ w ∈ lw_all, w.before _ s = true := fun w h => hts w (List.mem_cons_of_mem _ h)
  have hown : s.vm.findClass RX1 = some m.cls := findClass_of_methodNamed B.named
  have hlocks := B.notSynchronized
  subst hsz
  generalize hAe : va_A [] s.heap.size = A
  have hA : ∀ q : Nat, s.heap.size ≤ q → A q := fun q h => by rw [← hAe]; exact Or.inr h
  have hS : va_S A s.heap s.heap [] := va_S.rf
  have hP : va_P D vwCl (cs_wM ad cI cZ n ky vl sp nd cm hs pl sh) s.heap := hP
  have hl := lv_entry ([.ref (ad 0), .int p0, .int p1]) (n := 4) (Nat.le_of_ble_eq_true rfl)
  rw [lg_entry_eq]
  generalize (lg_sl ([.ref (ad 0), .int p0, .int p1]) ++ List.replicate (4 - (lg_sl ([.ref (ad 0), .int p0, .int p1])).length) Slot.unset).toArray = ls at hl ⊢
  have hl : lv_has ls 4 [(0, .ref (ad 0)), (1, .int p0), (2, .int p1)] := hl
  refine lv_aload_n hx hb dX1_deliver_0 rfl (lv_at hl 0 rfl) ?_
  refine lv_iload_n hx hb dX1_deliver_1 rfl (lv_at hl 1 rfl) ?_
  refine cs_callRV (C := RX1) (As := [.int p0]) (rest := []) ⟨hx, hb, hml, hown, hts⟩ (cs_isVersion_t l D h) (cwV 1 hts (lw_V q227 q229 qs10 q13 q230) rfl rfl rfl (by decide +kernel) ⟨Nat.le_of_ble_eq_true rfl, Nat.le_of_ble_eq_true rfl⟩) (va_recv hK hP (ci := 1) (q0 := 0) rfl rfl) hP hK hP hS hA rfl hl.1 rfl (Nat.le_of_ble_eq_true rfl) dX1_deliver_2 ⟨Nat.zero_le _, Nat.zero_le _⟩ (fun H locs hP hS => ?_)
  refine cs_zne (tgt := 11) hx hb dX1_deliver_5 (by decide) (fun h9 => absurd h9 (by decide)) (fun h9 => ?_)
  refine lv_bipush (v := -5) hx hb dX1_deliver_8 (by decide) ?_
  exact W.iret (v := (-5)) hx hb hr (fun t ht hW => ⟨⟨(-5), (), rfl, rfl, trivial⟩, hS.F ht⟩) hS.2.2 dX1_deliver_10

set_option maxHeartbeats 4000000 in
set_option maxRecDepth 100000 in
theorem cm_deliver_2 (l : Launch) (D : va_G) {ad : Nat → Nat} {cI cZ : ClassId} {n : Nat} {ky : Nat → Nat} {vl : Nat → Int32} {sp : Nat → Int32} {nd : Nat → Bool} {cm : Nat → Bool} {hs : Nat → Bool} {pl : Nat → Nat} {sh : Nat → Bool} (v : Nat) {p1 : Int32} (hv : v < n) (hn : n ≤ 40) (h : cs_bad p1 = true) : cs_MR l yX1_deliver (ws_ yX1_deliver cX1_deliver 4 (some .int)) ({ frames := 3, cells := 0, slots := 0, locals := 71 }) D vwCl (cs_wM ad cI cZ n ky vl sp nd cm hs pl sh) (cs_tM cI cZ) [.ref (ad 0), .int (nI v), .int p1] (-4) := by
  intro sz
  refine Met.ofW (cc := cX1_deliver) (maxL := 4) (ret := (some .int)) (by decide) rfl ?_
  intro p e s m args below meth c s₁ B hml hv9
  obtain ⟨rfl, hsz, hP, hK⟩ := hv9
  have hx := B.exec
  have hb := B.bytes
  have hr := B.returns
  have hts := atoms_spec (ws := (ws_ yX1_deliver cX1_deliver 4 (some .int))) B.pre
  have hts : ∀ w ∈ lw_all, w.before _ s = true := fun w h => hts w (List.mem_cons_of_mem _ h)
  have hown : s.vm.findClass RX1 = some m.cls := findClass_of_methodNamed B.named
  have hlocks := B.notSynchronized
  subst hsz
  generalize hAe : va_A [] s.heap.size = A
  have hA : ∀ q : Nat, s.heap.size ≤ q → A q := fun q h => by rw [← hAe]; exact Or.inr h
  have hS : va_S A s.heap s.heap [] := va_S.rf
  have hP : va_P D vwCl (cs_wM ad cI cZ n ky vl sp nd cm hs pl sh) s.heap := hP
  have hl := lv_entry ([.ref (ad 0), .int (nI v), .int p1]) (n := 4) (Nat.le_of_ble_eq_true rfl)
  rw [lg_entry_eq]
  generalize (lg_sl ([.ref (ad 0), .int (nI v), .int p1]) ++ List.replicate (4 - (lg_sl ([.ref (ad 0), .int (nI v), .int p1])).length) Slot.unset).toArray = ls at hl ⊢
  have hl : lv_has ls 4 [(0, .ref (ad 0)), (1, .int (nI v)), (2, .int p1)] := hl
  refine lv_aload_n hx hb dX1_deliver_0 rfl (lv_at hl 0 rfl) ?_
  refine lv_iload_n hx hb dX1_deliver_1 rfl (lv_at hl 1 rfl) ?_
  refine cs_callRV (C := RX1) (As := [.int (nI v)]) (rest := []) ⟨hx, hb, hml, hown, hts⟩ (cs_isVersion_k l D hv hn) (cwV 1 hts (lw_V q227 q229 qs10 q13 q230) rfl rfl rfl (by decide +kernel) ⟨Nat.le_of_ble_eq_true rfl, Nat.le_of_ble_eq_true rfl⟩) (va_recv hK hP (ci := 1) (q0 := 0) rfl rfl) hP hK hP hS hA rfl hl.1 rfl (Nat.le_of_ble_eq_true rfl) dX1_deliver_2 ⟨Nat.zero_le _, Nat.zero_le _⟩ (fun H locs hP hS => ?_)
  refine cs_zne (tgt := 11) hx hb dX1_deliver_5 (by decide) (fun h9 => ?_) (fun h9 => absurd h9 (by decide))
  refine lv_aload_n hx hb dX1_deliver_11 rfl (lv_at hl 0 rfl) ?_
  refine lv_iload_n hx hb dX1_deliver_12 rfl (lv_at hl 2 rfl) ?_
  refine cs_callRV (C := RX1) (As := [.int p1]) (rest := []) ⟨hx, hb, hml, hown, hts⟩ (cs_three_t l D h) (cwV 1 hts (lw_V q195 q197 qs6 q13 q198) rfl rfl rfl (by decide +kernel) ⟨Nat.le_of_ble_eq_true rfl, Nat.le_of_ble_eq_true rfl⟩) (va_recv hK hP (ci := 1) (q0 := 0) rfl rfl) cs_P0 hK hP hS hA rfl hl.1 rfl (Nat.le_of_ble_eq_true rfl) dX1_deliver_13 ⟨Nat.zero_le _, Nat.zero_le _⟩ (fun H locs hP hS => ?_)
  refine cs_zne (tgt := 22) hx hb dX1_deliver_16 (by decide) (fun h9 => absurd h9 (by decide)) (fun h9 => ?_)
  refine lv_bipush (v := -4) hx hb dX1_deliver_19 (by decide) ?_
  exact W.iret (v := (-4)) hx hb hr (fun t ht hW => ⟨⟨(-4), (), rfl, rfl, trivial⟩, hS.F ht⟩) hS.2.2 dX1_deliver_21

set_option maxHeartbeats 4000000 in
set_option maxRecDepth 100000 in
theorem cm_deliver_3 (l : Launch) (D : va_G) {ad : Nat → Nat} {cI cZ : ClassId} {n : Nat} {ky : Nat → Nat} {vl : Nat → Int32} {sp : Nat → Int32} {nd : Nat → Bool} {cm : Nat → Bool} {hs : Nat → Bool} {pl : Nat → Nat} {sh : Nat → Bool} (v z : Nat) (hv : v < n) (hn : n ≤ 40) (hz : z < 3) (hc : cm (z * 40 + v) = true) : cs_MR l yX1_deliver (ws_ yX1_deliver cX1_deliver 4 (some .int)) ({ frames := 3, cells := 0, slots := 0, locals := 71 }) D vwCl (cs_wM ad cI cZ n ky vl sp nd cm hs pl sh) (cs_tM cI cZ) [.ref (ad 0), .int (nI v), .int (nI z)] (-6) := by
  intro sz
  refine Met.ofW (cc := cX1_deliver) (maxL := 4) (ret := (some .int)) (by decide) rfl ?_
  intro p e s m args below meth c s₁ B hml hv9
  obtain ⟨rfl, hsz, hP, hK⟩ := hv9
  have hx := B.exec
  have hb := B.bytes
  have hr := B.returns
  have hts := atoms_spec (ws := (ws_ yX1_deliver cX1_deliver 4 (some .int))) B.pre
  have hts : ∀ w ∈ lw_all, w.before _ s = true := fun w h => hts w (List.mem_cons_of_mem _ h)
  have hown : s.vm.findClass RX1 = some m.cls := findClass_of_methodNamed B.named
  have hlocks := B.notSynchronized
  subst hsz
  generalize hAe : va_A [] s.heap.size = A
  have hA : ∀ q : Nat, s.heap.size ≤ q → A q := fun q h => by rw [← hAe]; exact Or.inr h
  have hS : va_S A s.heap s.heap [] := va_S.rf
  have hP : va_P D vwCl (cs_wM ad cI cZ n ky vl sp nd cm hs pl sh) s.heap := hP
  have hl := lv_entry ([.ref (ad 0), .int (nI v), .int (nI z)]) (n := 4) (Nat.le_of_ble_eq_true rfl)
  rw [lg_entry_eq]
  generalize (lg_sl ([.ref (ad 0), .int (nI v), .int (nI z)]) ++ List.replicate (4 - (lg_sl ([.ref (ad 0), .int (nI v), .int (nI z)])).length) Slot.unset).toArray = ls at hl ⊢
  have hl : lv_has ls 4 [(0, .ref (ad 0)), (1, .int (nI v)), (2, .int (nI z))] := hl
  refine lv_aload_n hx hb dX1_deliver_0 rfl (lv_at hl 0 rfl) ?_
  refine lv_iload_n hx hb dX1_deliver_1 rfl (lv_at hl 1 rfl) ?_
  refine cs_callRV (C := RX1) (As := [.int (nI v)]) (rest := []) ⟨hx, hb, hml, hown, hts⟩ (cs_isVersion_k l D hv hn) (cwV 1 hts (lw_V q227 q229 qs10 q13 q230) rfl rfl rfl (by decide +kernel) ⟨Nat.le_of_ble_eq_true rfl, Nat.le_of_ble_eq_true rfl⟩) (va_recv hK hP (ci := 1) (q0 := 0) rfl rfl) hP hK hP hS hA rfl hl.1 rfl (Nat.le_of_ble_eq_true rfl) dX1_deliver_2 ⟨Nat.zero_le _, Nat.zero_le _⟩ (fun H locs hP hS => ?_)
  refine cs_zne (tgt := 11) hx hb dX1_deliver_5 (by decide) (fun h9 => ?_) (fun h9 => absurd h9 (by decide))
  refine lv_aload_n hx hb dX1_deliver_11 rfl (lv_at hl 0 rfl) ?_
  refine lv_iload_n hx hb dX1_deliver_12 rfl (lv_at hl 2 rfl) ?_
  refine cs_callRV (C := RX1) (As := [.int (nI z)]) (rest := []) ⟨hx, hb, hml, hown, hts⟩ (cs_three_k l D hz) (cwV 1 hts (lw_V q195 q197 qs6 q13 q198) rfl rfl rfl (by decide +kernel) ⟨Nat.le_of_ble_eq_true rfl, Nat.le_of_ble_eq_true rfl⟩) (va_recv hK hP (ci := 1) (q0 := 0) rfl rfl) cs_P0 hK hP hS hA rfl hl.1 rfl (Nat.le_of_ble_eq_true rfl) dX1_deliver_13 ⟨Nat.zero_le _, Nat.zero_le _⟩ (fun H locs hP hS => ?_)
  refine cs_zne (tgt := 22) hx hb dX1_deliver_16 (by decide) (fun h9 => ?_) (fun h9 => absurd h9 (by decide))
  refine lv_aload_n hx hb dX1_deliver_22 rfl (lv_at hl 0 rfl) ?_
  refine va_get (D := D) (ci := 1) (v := .ref (ad 5)) (C := RX1) (T := TX1) (N := 9) hx hb hts in_X1 hown hK hP 0 rfl rfl 5 (by decide) (hts _ q167) (fun _ h9 => h9) rfl dX1_deliver_23 ?_
  refine lv_iload_n hx hb dX1_deliver_26 rfl (lv_at hl 2 rfl) ?_
  refine lv_bipush (v := nI 40) hx hb dX1_deliver_27 (by decide) ?_
  refine cs_imul hx hb dX1_deliver_29 ?_
  refine lv_iload_n hx hb dX1_deliver_30 rfl (lv_at hl 1 rfl) ?_
  refine cs_iadd hx hb dX1_deliver_31 ?_
  refine cs_zald hx hb hK hP 5 1 rfl rfl (k := (z * 40) + v) (by omega) (by decide) dX1_deliver_32 ?_
  refine cs_zeq (tgt := 39) hx hb dX1_deliver_33 (by decide) (fun h7 => absurd (hc.symm.trans h7) (by decide)) (fun h7 => ?_)
  refine lv_bipush (v := -6) hx hb dX1_deliver_36 (by decide) ?_
  exact W.iret (v := (-6)) hx hb hr (fun t ht hW => ⟨⟨(-6), (), rfl, rfl, trivial⟩, hS.F ht⟩) hS.2.2 dX1_deliver_38

set_option maxHeartbeats 4000000 in
set_option maxRecDepth 100000 in
theorem cm_deliver_4 (l : Launch) (D : va_G) {ad : Nat → Nat} {cI cZ : ClassId} {n : Nat} {ky : Nat → Nat} {vl : Nat → Int32} {sp : Nat → Int32} {nd : Nat → Bool} {cm : Nat → Bool} {hs : Nat → Bool} {pl : Nat → Nat} {sh : Nat → Bool} (v : Nat) (hv : v < n) (z : Nat) (hz : z < 3) (hn : n ≤ 40) (V : Nat → Bool) (hV : ∀ v, v < n → (V v = true ↔ (cm (z * 40 + v) = true ∧ ∀ b, b < n → nd (v * 40 + b) = true → V b = true))) (hnd : ∀ v b, v < n → b < n → nd (v * 40 + b) = true → b < v) (Y : Nat → Bool) (hY : ∀ i, i < n → (Y i = true ↔ ((va_up cm (z * 40 + v) true) (z * 40 + i) = true ∧ ∀ b, b < n → nd (i * 40 + b) = true → Y b = true))) (hc : cm (z * 40 + v) = false) : cs_MW l yX1_deliver (ws_ yX1_deliver cX1_deliver 4 (some .int)) ({ frames := 3, cells := 0, slots := 0, locals := 71 }) D vwCl (cs_wM ad cI cZ n ky vl sp nd cm hs pl sh) (cs_tM cI cZ) [.ref (ad 0), .int (nI v), .int (nI z)] (fun r w' => r = nI (cs_n Y n) - nI (cs_n V n) ∧ ∃ sh1 : Nat → Bool, w' = cs_wM ad cI cZ n ky vl sp nd (va_up cm (z * 40 + v) true) hs pl sh1) := by
  intro sz
  refine Met.ofW (cc := cX1_deliver) (maxL := 4) (ret := (some .int)) (by decide) rfl ?_
  intro p e s m args below meth c s₁ B hml hv9
  obtain ⟨rfl, hsz, hP, hK, hD0⟩ := hv9
  have hx := B.exec
  have hb := B.bytes
  have hr := B.returns
  have hts := atoms_spec (ws := (ws_ yX1_deliver cX1_deliver 4 (some .int))) B.pre
  have hts : ∀ w ∈ lw_all, w.before _ s = true := fun w h => hts w (List.mem_cons_of_mem _ h)
  have hown : s.vm.findClass RX1 = some m.cls := findClass_of_methodNamed B.named
  have hlocks := B.notSynchronized
  subst hsz
  have hD := hD0.self (sz := s.heap.size)
  generalize hAe : va_A (cs_wM ad cI cZ n ky vl sp nd cm hs pl sh) s.heap.size = A at hD ⊢
  have hA : ∀ q : Nat, s.heap.size ≤ q → A q := fun q h => by rw [← hAe]; exact Or.inr h
  have hS : va_S A s.heap s.heap [] := va_S.rf
  have hP : va_P D vwCl (cs_wM ad cI cZ n ky vl sp nd cm hs pl sh) s.heap := hP
  have hl := lv_entry ([.ref (ad 0), .int (nI v), .int (nI z)]) (n := 4) (Nat.le_of_ble_eq_true rfl)
  rw [lg_entry_eq]
  generalize (lg_sl ([.ref (ad 0), .int (nI v), .int (nI z)]) ++ List.replicate (4 - (lg_sl ([.ref (ad 0), .int (nI v), .int (nI z)])).length) Slot.unset).toArray = ls at hl ⊢
  have hl : lv_has ls 4 [(0, .ref (ad 0)), (1, .int (nI v)), (2, .int (nI z))] := hl
  refine lv_aload_n hx hb dX1_deliver_0 rfl (lv_at hl 0 rfl) ?_
  refine lv_iload_n hx hb dX1_deliver_1 rfl (lv_at hl 1 rfl) ?_
  refine cs_callRV (C := RX1) (As := [.int (nI v)]) (rest := []) ⟨hx, hb, hml, hown, hts⟩ (cs_isVersion_k l D hv hn) (cwV 1 hts (lw_V q227 q229 qs10 q13 q230) rfl rfl rfl (by decide +kernel) ⟨Nat.le_of_ble_eq_true rfl, Nat.le_of_ble_eq_true rfl⟩) (va_recv hK hP (ci := 1) (q0 := 0) rfl rfl) hP hK hP hS hA rfl hl.1 rfl (Nat.le_of_ble_eq_true rfl) dX1_deliver_2 ⟨Nat.zero_le _, Nat.zero_le _⟩ (fun H locs hP hS => ?_)
  refine cs_zne (tgt := 11) hx hb dX1_deliver_5 (by decide) (fun h9 => ?_) (fun h9 => absurd h9 (by decide))
  refine lv_aload_n hx hb dX1_deliver_11 rfl (lv_at hl 0 rfl) ?_
  refine lv_iload_n hx hb dX1_deliver_12 rfl (lv_at hl 2 rfl) ?_
  refine cs_callRV (C := RX1) (As := [.int (nI z)]) (rest := []) ⟨hx, hb, hml, hown, hts⟩ (cs_three_k l D hz) (cwV 1 hts (lw_V q195 q197 qs6 q13 q198) rfl rfl rfl (by decide +kernel) ⟨Nat.le_of_ble_eq_true rfl, Nat.le_of_ble_eq_true rfl⟩) (va_recv hK hP (ci := 1) (q0 := 0) rfl rfl) cs_P0 hK hP hS hA rfl hl.1 rfl (Nat.le_of_ble_eq_true rfl) dX1_deliver_13 ⟨Nat.zero_le _, Nat.zero_le _⟩ (fun H locs hP hS => ?_)
  refine cs_zne (tgt := 22) hx hb dX1_deliver_16 (by decide) (fun h9 => ?_) (fun h9 => absurd h9 (by decide))
  refine lv_aload_n hx hb dX1_deliver_22 rfl (lv_at hl 0 rfl) ?_
  refine va_get (D := D) (ci := 1) (v := .ref (ad 5)) (C := RX1) (T := TX1) (N := 9) hx hb hts in_X1 hown hK hP 0 rfl rfl 5 (by decide) (hts _ q167) (fun _ h9 => h9) rfl dX1_deliver_23 ?_
  refine lv_iload_n hx hb dX1_deliver_26 rfl (lv_at hl 2 rfl) ?_
  refine lv_bipush (v := nI 40) hx hb dX1_deliver_27 (by decide) ?_
  refine cs_imul hx hb dX1_deliver_29 ?_
  refine lv_iload_n hx hb dX1_deliver_30 rfl (lv_at hl 1 rfl) ?_
  refine cs_iadd hx hb dX1_deliver_31 ?_
  refine cs_zald hx hb hK hP 5 1 rfl rfl (k := (z * 40) + v) (by omega) (by decide) dX1_deliver_32 ?_
  refine cs_zeq (tgt := 39) hx hb dX1_deliver_33 (by decide) (fun h7 => ?_) (fun h7 => absurd (hc.symm.trans h7) (by decide))
  refine lv_aload_n hx hb dX1_deliver_39 rfl (lv_at hl 0 rfl) ?_
  refine lv_iload_n hx hb dX1_deliver_40 rfl (lv_at hl 2 rfl) ?_
  refine cs_callWV (C := RX1) (As := [.int (nI z)]) (rest := []) ⟨hx, hb, hml, hown, hts⟩ (cs_sweep l D z hz hn V hV hnd) (cwV 1 hts (lw_V q211 q213 qs8 q13 q214) rfl rfl rfl (by decide +kernel) ⟨Nat.le_of_ble_eq_true rfl, Nat.le_of_ble_eq_true rfl⟩) (va_recv hK hP (ci := 1) (q0 := 0) rfl rfl) hK hP hD hS hA rfl hl.1 rfl (Nat.le_of_ble_eq_true rfl) dX1_deliver_41 ⟨Nat.zero_le _, Nat.zero_le _⟩ (fun r w' H locs hq hP hD hS => ?_)
  obtain ⟨rfl, sh1, h0, rfl⟩ := hq
  refine lv_istore_n (lv' := [(3, .int (nI (cs_n V n))), (0, .ref (ad 0)), (1, .int (nI v)), (2, .int (nI z))]) hx hb dX1_deliver_44 rfl hl (by decide) rfl (fun ls hl => ?_)
  refine lv_aload_n hx hb dX1_deliver_45 rfl (lv_at hl 1 rfl) ?_
  refine va_get (D := D) (ci := 1) (v := .ref (ad 5)) (C := RX1) (T := TX1) (N := 9) hx hb hts in_X1 hown hK hP 0 rfl rfl 5 (by decide) (hts _ q167) (fun _ h9 => h9) rfl dX1_deliver_46 ?_
  refine lv_iload_n hx hb dX1_deliver_49 rfl (lv_at hl 3 rfl) ?_
  refine lv_bipush (v := nI 40) hx hb dX1_deliver_50 (by decide) ?_
  refine cs_imul hx hb dX1_deliver_52 ?_
  refine lv_iload_n hx hb dX1_deliver_53 rfl (lv_at hl 2 rfl) ?_
  refine cs_iadd hx hb dX1_deliver_54 ?_
  refine lv_iconst (v := cs_b true) hx hb dX1_deliver_55 (by decide) ?_
  refine cs_zast (f := cm) (k := (z * 40) + v) (x := true) hx hb hK hP hD hS 5 1 rfl rfl (by omega) (by decide) dX1_deliver_56 (fun H locs hP hD hS => ?_)
  have hP : va_P D vwCl (cs_wM ad cI cZ n ky vl sp nd (va_up cm ((z * 40) + v) true) hs pl sh1) H := hP
  have hD : va_D A (cs_wM ad cI cZ n ky vl sp nd (va_up cm ((z * 40) + v) true) hs pl sh1) := hD
  refine lv_aload_n hx hb dX1_deliver_57 rfl (lv_at hl 1 rfl) ?_
  refine lv_iload_n hx hb dX1_deliver_58 rfl (lv_at hl 3 rfl) ?_
  refine cs_callWV (C := RX1) (As := [.int (nI z)]) (rest := []) ⟨hx, hb, hml, hown, hts⟩ (cs_sweep l D z hz hn Y hY hnd) (cwV 1 hts (lw_V q211 q213 qs8 q13 q214) rfl rfl rfl (by decide +kernel) ⟨Nat.le_of_ble_eq_true rfl, Nat.le_of_ble_eq_true rfl⟩) (va_recv hK hP (ci := 1) (q0 := 0) rfl rfl) hK hP hD hS hA rfl hl.1 rfl (Nat.le_of_ble_eq_true rfl) dX1_deliver_59 ⟨Nat.zero_le _, Nat.zero_le _⟩ (fun r w' H locs hq hP hD hS => ?_)
  obtain ⟨rfl, sh2, h1, rfl⟩ := hq
  refine lv_iload_n hx hb dX1_deliver_62 rfl (lv_at hl 0 rfl) ?_
  refine lv_isub hx hb dX1_deliver_63 ?_
  exact W.iret (v := (((nI (cs_n Y n))) - ((nI (cs_n V n))))) hx hb hr (fun t ht hW => ⟨⟨(((nI (cs_n Y n))) - ((nI (cs_n V n)))), cs_wM ad cI cZ n ky vl sp nd (va_up cm ((z * 40) + v) true) hs pl sh2, rfl, ⟨rfl, sh2, rfl⟩, by rw [ht]; exact hP, hD⟩, hS.F ht⟩) hS.2.2 dX1_deliver_64

set_option maxHeartbeats 4000000 in
set_option maxRecDepth 100000 in
theorem cm_deliverAll_1 (l : Launch) (D : va_G) {ad : Nat → Nat} {cI cZ : ClassId} {n : Nat} {ky : Nat → Nat} {vl : Nat → Int32} {sp : Nat → Int32} {nd : Nat → Bool} {cm : Nat → Bool} {hs : Nat → Bool} {pl : Nat → Nat} {sh : Nat → Bool} {p0 : Int32} (h : cs_bad p0 = true) : cs_MR l yX1_deliverAll (ws_ yX1_deliverAll cX1_deliverAll 4 (some .int)) ({ frames := 3, cells := 0, slots := 0, locals := 71 }) D vwCl (cs_wM ad cI cZ n ky vl sp nd cm hs pl sh) (cs_tM cI cZ) [.ref (ad 0), .int p0] (-4) := by
  intro sz
  refine Met.ofW (cc := cX1_deliverAll) (maxL := 4) (ret := (some .int)) (by decide) rfl ?_
  intro p e s m args below meth c s₁ B hml hv9
  obtain ⟨rfl, hsz, hP, hK⟩ := hv9
  have hx := B.exec
  have hb := B.bytes
  have hr := B.returns
  have hts := atoms_spec (ws := (ws_ yX1_deliverAll cX1_deliverAll 4 (some .int))) B.pre
  have hts : ∀ w ∈ lw_all, w.before _ s = true := fun w h => hts w (List.mem_cons_of_mem _ h)
  have hown : s.vm.findClass RX1 = some m.cls := findClass_of_methodNamed B.named
  have hlocks := B.notSynchronized
  subst hsz
  generalize hAe : va_A [] s.heap.size = A
  have hA : ∀ q : Nat, s.heap.size ≤ q → A q := fun q h => by rw [← hAe]; exact Or.inr h
  have hS : va_S A s.heap s.heap [] := va_S.rf
  have hP : va_P D vwCl (cs_wM ad cI cZ n ky vl sp nd cm hs pl sh) s.heap := hP
  have hl := lv_entry ([.ref (ad 0), .int p0]) (n := 4) (Nat.le_of_ble_eq_true rfl)
  rw [lg_entry_eq]
  generalize (lg_sl ([.ref (ad 0), .int p0]) ++ List.replicate (4 - (lg_sl ([.ref (ad 0), .int p0])).length) Slot.unset).toArray = ls at hl ⊢
  have hl : lv_has ls 4 [(0, .ref (ad 0)), (1, .int p0)] := hl
  refine lv_aload_n hx hb dX1_deliverAll_0 rfl (lv_at hl 0 rfl) ?_
  refine lv_iload_n hx hb dX1_deliverAll_1 rfl (lv_at hl 1 rfl) ?_
  refine cs_callRV (C := RX1) (As := [.int p0]) (rest := []) ⟨hx, hb, hml, hown, hts⟩ (cs_three_t l D h) (cwV 1 hts (lw_V q195 q197 qs6 q13 q198) rfl rfl rfl (by decide +kernel) ⟨Nat.le_of_ble_eq_true rfl, Nat.le_of_ble_eq_true rfl⟩) (va_recv hK hP (ci := 1) (q0 := 0) rfl rfl) cs_P0 hK hP hS hA rfl hl.1 rfl (Nat.le_of_ble_eq_true rfl) dX1_deliverAll_2 ⟨Nat.zero_le _, Nat.zero_le _⟩ (fun H locs hP hS => ?_)
  refine cs_zne (tgt := 11) hx hb dX1_deliverAll_5 (by decide) (fun h9 => absurd h9 (by decide)) (fun h9 => ?_)
  refine lv_bipush (v := -4) hx hb dX1_deliverAll_8 (by decide) ?_
  exact W.iret (v := (-4)) hx hb hr (fun t ht hW => ⟨⟨(-4), (), rfl, rfl, trivial⟩, hS.F ht⟩) hS.2.2 dX1_deliverAll_10

set_option maxHeartbeats 4000000 in
set_option maxRecDepth 100000 in
theorem cm_deliverAll_loop {p : Program} {l : Launch} {e : Env} {R : Room} {s : State} {m : MethodId} {args : Array Value} {below : List Frame} {meth : Method} {c : Code} {Q : State → Prop} {D : va_G} {A : Nat → Prop} {H0 : Heap} (hx : p.tables.exec = Jvm.exec) (hb : c.code = cX1_deliverAll) (hml : c.maxLocals = 4) (hown : s.vm.findClass RX1 = some m.cls) (hts : ∀ w ∈ lw_all, w.before args s = true) (hA : ∀ q : Nat, H0.size ≤ q → A q) (hR : 0 ≤ R.frames ∧ 0 ≤ R.locals) {ad : Nat → Nat} {cI cZ : ClassId} (hK : va_K D vwCl (cs_tM cI cZ) s) {n : Nat} {ky : Nat → Nat} {vl : Nat → Int32} {sp : Nat → Int32} {nd : Nat → Bool} {hs : Nat → Bool} {pl : Nat → Nat} {sh : Nat → Bool} {cm0 : Nat → Bool} (z a0 : Nat) (hz : z < 3) (hn : n ≤ 40) (hend : ∀ cm : Nat → Bool, (∀ a, a < n → cm (z * 40 + a) = true) → (∀ q, ¬ (z * 40 ≤ q ∧ q < z * 40 + n) → cm q = cm0 q) → ∀ (H : Heap) (locs : List Loc), va_P D vwCl (cs_wM ad cI cZ n ky vl sp nd cm hs pl sh) H → va_D A (cs_wM ad cI cZ n ky vl sp nd cm hs pl sh) → va_S A H0 H locs → ∀ ls : Array Slot, lv_has ls 4 [(0, .ref (ad 0)), (1, .int (nI z)), (2, .int (nI a0)), (3, .int (nI n))] → W p l e R s m args below meth c H locs 0 0 Q (F0 m 45 ls [])) :
    ∀ (j i : Nat), i + j = n → ∀ cm : Nat → Bool, (∀ a, a < i → cm (z * 40 + a) = true) → (∀ q, ¬ (z * 40 ≤ q ∧ q < z * 40 + i) → cm q = cm0 q) → ∀ (H : Heap) (locs : List Loc), va_P D vwCl (cs_wM ad cI cZ n ky vl sp nd cm hs pl sh) H → va_D A (cs_wM ad cI cZ n ky vl sp nd cm hs pl sh) → va_S A H0 H locs → ∀ ls : Array Slot, lv_has ls 4 [(0, .ref (ad 0)), (1, .int (nI z)), (2, .int (nI a0)), (3, .int (nI i))] → W p l e R s m args below meth c H locs 0 0 Q (F0 m 19 ls []) := by
  intro j
  induction j with
  | zero =>
    intro i hi cm h0 h1 H locs hP hD hS ls hl
    refine lv_iload_n hx hb dX1_deliverAll_19 rfl (lv_at hl 3 rfl) ?_
    refine lv_aload_n hx hb dX1_deliverAll_20 rfl (lv_at hl 0 rfl) ?_
    refine va_get (D := D) (ci := 1) (v := .int (nI n)) (C := RX1) (T := TX1) (N := 9) hx hb hts in_X1 hown hK hP 0 rfl rfl 0 (by decide) (hts _ q162) (fun _ h9 => h9) rfl dX1_deliverAll_21 ?_
    refine cs_jge (tgt := 45) hx hb dX1_deliverAll_24 (by decide) (by omega) (by omega) (fun h => ?_) (fun h => absurd h (by omega))
    have hi : i = n := by omega
    subst hi
    exact hend cm h0 h1 H locs hP hD hS ls hl
  | succ j ih =>
    intro i hi cm h0 h1 H locs hP hD hS ls hl
    refine lv_iload_n hx hb dX1_deliverAll_19 rfl (lv_at hl 3 rfl) ?_
    refine lv_aload_n hx hb dX1_deliverAll_20 rfl (lv_at hl 0 rfl) ?_
    refine va_get (D := D) (ci := 1) (v := .int (nI n)) (C := RX1) (T := TX1) (N := 9) hx hb hts in_X1 hown hK hP 0 rfl rfl 0 (by decide) (hts _ q162) (fun _ h9 => h9) rfl dX1_deliverAll_21 ?_
    refine cs_jge (tgt := 45) hx hb dX1_deliverAll_24 (by decide) (by omega) (by omega) (fun h => absurd h (by omega)) (fun h => ?_)
    refine lv_aload_n hx hb dX1_deliverAll_27 rfl (lv_at hl 0 rfl) ?_
    refine va_get (D := D) (ci := 1) (v := .ref (ad 5)) (C := RX1) (T := TX1) (N := 9) hx hb hts in_X1 hown hK hP 0 rfl rfl 5 (by decide) (hts _ q167) (fun _ h9 => h9) rfl dX1_deliverAll_28 ?_
    refine lv_iload_n hx hb dX1_deliverAll_31 rfl (lv_at hl 1 rfl) ?_
    refine lv_bipush (v := nI 40) hx hb dX1_deliverAll_32 (by decide) ?_
    refine cs_imul hx hb dX1_deliverAll_34 ?_
    refine lv_iload_n hx hb dX1_deliverAll_35 rfl (lv_at hl 3 rfl) ?_
    refine cs_iadd hx hb dX1_deliverAll_36 ?_
    refine lv_iconst (v := cs_b true) hx hb dX1_deliverAll_37 (by decide) ?_
    refine cs_zast (f := cm) (k := (z * 40) + i) (x := true) hx hb hK hP hD hS 5 1 rfl rfl (by omega) (by decide) dX1_deliverAll_38 (fun H locs hP hD hS => ?_)
    have hP : va_P D vwCl (cs_wM ad cI cZ n ky vl sp nd (va_up cm ((z * 40) + i) true) hs pl sh) H := hP
    have hD : va_D A (cs_wM ad cI cZ n ky vl sp nd (va_up cm ((z * 40) + i) true) hs pl sh) := hD
    refine lv_iinc (v := nI (i + 1)) (lv' := [(3, .int (nI (i + 1))), (0, .ref (ad 0)), (1, .int (nI z)), (2, .int (nI a0))]) hx hb dX1_deliverAll_39 hl (k := 3) rfl (cs_inc _) (by decide) rfl (fun ls hl => ?_)
    refine lv_goto (tgt := 19) hx hb dX1_deliverAll_42 (by decide) ?_
    exact ih (i + 1) (by omega) _ (lt_s (fun a ha => by rw [va_up_ne _ _ (by omega)]; exact h0 a ha) (va_up_self _ _ _)) (fun q hq => by rw [va_up_ne _ _ (by omega)]; exact h1 q (by omega)) H locs hP hD hS ls (lv_sub hl [1, 2, 3, 0] rfl)

set_option maxHeartbeats 4000000 in
set_option maxRecDepth 100000 in
theorem cm_deliverAll_2 (l : Launch) (D : va_G) {ad : Nat → Nat} {cI cZ : ClassId} {n : Nat} {ky : Nat → Nat} {vl : Nat → Int32} {sp : Nat → Int32} {nd : Nat → Bool} {cm : Nat → Bool} {hs : Nat → Bool} {pl : Nat → Nat} {sh : Nat → Bool} (z : Nat) (hz : z < 3) (hn : n ≤ 40) (V : Nat → Bool) (hV : ∀ v, v < n → (V v = true ↔ (cm (z * 40 + v) = true ∧ ∀ b, b < n → nd (v * 40 + b) = true → V b = true))) (hnd : ∀ v b, v < n → b < n → nd (v * 40 + b) = true → b < v) (Y : Nat → Bool) (hY : ∀ i, i < n → (Y i = true ↔ ∀ b, b < n → nd (i * 40 + b) = true → Y b = true)) : cs_MW l yX1_deliverAll (ws_ yX1_deliverAll cX1_deliverAll 4 (some .int)) ({ frames := 3, cells := 0, slots := 0, locals := 71 }) D vwCl (cs_wM ad cI cZ n ky vl sp nd cm hs pl sh) (cs_tM cI cZ) [.ref (ad 0), .int (nI z)] (fun r w' => r = nI (cs_n Y n) - nI (cs_n V n) ∧ ∃ (cm1 sh1 : Nat → Bool), (∀ a, a < n → cm1 (z * 40 + a) = true) ∧ (∀ q, ¬ (z * 40 ≤ q ∧ q < z * 40 + n) → cm1 q = cm q) ∧ w' = cs_wM ad cI cZ n ky vl sp nd cm1 hs pl sh1) := by
  intro sz
  refine Met.ofW (cc := cX1_deliverAll) (maxL := 4) (ret := (some .int)) (by decide) rfl ?_
  intro p e s m args below meth c s₁ B hml hv9
  obtain ⟨rfl, hsz, hP, hK, hD0⟩ := hv9
  have hx := B.exec
  have hb := B.bytes
  have hr := B.returns
  have hts := atoms_spec (ws := (ws_ yX1_deliverAll cX1_deliverAll 4 (some .int))) B.pre
  have hts : ∀ w ∈ lw_all, w.before _ s = true := fun w h => hts w (List.mem_cons_of_mem _ h)
  have hown : s.vm.findClass RX1 = some m.cls := findClass_of_methodNamed B.named
  have hlocks := B.notSynchronized
  subst hsz
  have hD := hD0.self (sz := s.heap.size)
  generalize hAe : va_A (cs_wM ad cI cZ n ky vl sp nd cm hs pl sh) s.heap.size = A at hD ⊢
  have hA : ∀ q : Nat, s.heap.size ≤ q → A q := fun q h => by rw [← hAe]; exact Or.inr h
  have hS : va_S A s.heap s.heap [] := va_S.rf
  have hP : va_P D vwCl (cs_wM ad cI cZ n ky vl sp nd cm hs pl sh) s.heap := hP
  have hl := lv_entry ([.ref (ad 0), .int (nI z)]) (n := 4) (Nat.le_of_ble_eq_true rfl)
  rw [lg_entry_eq]
  generalize (lg_sl ([.ref (ad 0), .int (nI z)]) ++ List.replicate (4 - (lg_sl ([.ref (ad 0), .int (nI z)])).length) Slot.unset).toArray = ls at hl ⊢
  have hl : lv_has ls 4 [(0, .ref (ad 0)), (1, .int (nI z))] := hl
  refine lv_aload_n hx hb dX1_deliverAll_0 rfl (lv_at hl 0 rfl) ?_
  refine lv_iload_n hx hb dX1_deliverAll_1 rfl (lv_at hl 1 rfl) ?_
  refine cs_callRV (C := RX1) (As := [.int (nI z)]) (rest := []) ⟨hx, hb, hml, hown, hts⟩ (cs_three_k l D hz) (cwV 1 hts (lw_V q195 q197 qs6 q13 q198) rfl rfl rfl (by decide +kernel) ⟨Nat.le_of_ble_eq_true rfl, Nat.le_of_ble_eq_true rfl⟩) (va_recv hK hP (ci := 1) (q0 := 0) rfl rfl) cs_P0 hK hP hS hA rfl hl.1 rfl (Nat.le_of_ble_eq_true rfl) dX1_deliverAll_2 ⟨Nat.zero_le _, Nat.zero_le _⟩ (fun H locs hP hS => ?_)
  refine cs_zne (tgt := 11) hx hb dX1_deliverAll_5 (by decide) (fun h9 => ?_) (fun h9 => absurd h9 (by decide))
  refine lv_aload_n hx hb dX1_deliverAll_11 rfl (lv_at hl 0 rfl) ?_
  refine lv_iload_n hx hb dX1_deliverAll_12 rfl (lv_at hl 1 rfl) ?_
  refine cs_callWV (C := RX1) (As := [.int (nI z)]) (rest := []) ⟨hx, hb, hml, hown, hts⟩ (cs_sweep l D z hz hn V hV hnd) (cwV 1 hts (lw_V q211 q213 qs8 q13 q214) rfl rfl rfl (by decide +kernel) ⟨Nat.le_of_ble_eq_true rfl, Nat.le_of_ble_eq_true rfl⟩) (va_recv hK hP (ci := 1) (q0 := 0) rfl rfl) hK hP hD hS hA rfl hl.1 rfl (Nat.le_of_ble_eq_true rfl) dX1_deliverAll_13 ⟨Nat.zero_le _, Nat.zero_le _⟩ (fun r w' H locs hq hP hD hS => ?_)
  obtain ⟨rfl, sh1, h0, rfl⟩ := hq
  refine lv_istore_n (lv' := [(2, .int (nI (cs_n V n))), (0, .ref (ad 0)), (1, .int (nI z))]) hx hb dX1_deliverAll_16 rfl hl (by decide) rfl (fun ls hl => ?_)
  refine lv_iconst (v := nI 0) hx hb dX1_deliverAll_17 (by decide) ?_
  refine lv_istore_n (lv' := [(3, .int (nI 0)), (2, .int (nI (cs_n V n))), (0, .ref (ad 0)), (1, .int (nI z))]) hx hb dX1_deliverAll_18 rfl hl (by decide) rfl (fun ls hl => ?_)
  refine cm_deliverAll_loop hx hb hml hown hts hA ⟨Nat.zero_le _, Nat.zero_le _⟩ hK z (cs_n V n) hz hn (fun cm1 g0 g1 H locs hP hD hS ls hl => ?_) n 0 (by omega) cm (fun a ha => absurd ha (by omega)) (fun q _ => rfl) _ _ hP hD hS ls (lv_sub hl [2, 3, 1, 0] rfl)
  have hY2 : ∀ i, i < n → (Y i = true ↔ (cm1 (z * 40 + i) = true ∧ ∀ b, b < n → nd (i * 40 + b) = true → Y b = true)) := fun i hi => ⟨fun q => ⟨g0 i hi, (hY i hi).mp q⟩, fun q => (hY i hi).mpr q.2⟩
  refine lv_aload_n hx hb dX1_deliverAll_45 rfl (lv_at hl 0 rfl) ?_
  refine lv_iload_n hx hb dX1_deliverAll_46 rfl (lv_at hl 1 rfl) ?_
  refine cs_callWV (C := RX1) (As := [.int (nI z)]) (rest := []) ⟨hx, hb, hml, hown, hts⟩ (cs_sweep l D z hz hn Y hY2 hnd) (cwV 1 hts (lw_V q211 q213 qs8 q13 q214) rfl rfl rfl (by decide +kernel) ⟨Nat.le_of_ble_eq_true rfl, Nat.le_of_ble_eq_true rfl⟩) (va_recv hK hP (ci := 1) (q0 := 0) rfl rfl) hK hP hD hS hA rfl hl.1 rfl (Nat.le_of_ble_eq_true rfl) dX1_deliverAll_47 ⟨Nat.zero_le _, Nat.zero_le _⟩ (fun r w' H locs hq hP hD hS => ?_)
  obtain ⟨rfl, sh2, h1, rfl⟩ := hq
  refine lv_iload_n hx hb dX1_deliverAll_50 rfl (lv_at hl 2 rfl) ?_
  refine lv_isub hx hb dX1_deliverAll_51 ?_
  exact W.iret (v := (((nI (cs_n Y n))) - ((nI (cs_n V n))))) hx hb hr (fun t ht hW => ⟨⟨(((nI (cs_n Y n))) - ((nI (cs_n V n)))), cs_wM ad cI cZ n ky vl sp nd cm1 hs pl sh2, rfl, ⟨rfl, cm1, sh2, g0, g1, rfl⟩, by rw [ht]; exact hP, hD⟩, hS.F ht⟩) hS.2.2 dX1_deliverAll_52

set_option maxHeartbeats 4000000 in
set_option maxRecDepth 100000 in
theorem cm_write_1 (l : Launch) (D : va_G) {ad : Nat → Nat} {cI cZ : ClassId} {n : Nat} {ky : Nat → Nat} {vl : Nat → Int32} {sp : Nat → Int32} {nd : Nat → Bool} {cm : Nat → Bool} {hs : Nat → Bool} {pl : Nat → Nat} {sh : Nat → Bool} {p0 p1 p2 : Int32} (h : cs_bad p0 = true) : cs_MR l yX1_write (ws_ yX1_write cX1_write 6 (some .int)) ({ frames := 3, cells := 0, slots := 0, locals := 71 }) D vwCl (cs_wM ad cI cZ n ky vl sp nd cm hs pl sh) (cs_tM cI cZ) [.ref (ad 0), .int p0, .int p1, .int p2] (-1) := by
  intro sz
  refine Met.ofW (cc := cX1_write) (maxL := 6) (ret := (some .int)) (by decide) rfl ?_
  intro p e s m args below meth c s₁ B hml hv9
  obtain ⟨rfl, hsz, hP, hK⟩ := hv9
  have hx := B.exec
  have hb := B.bytes
  have hr := B.returns
  have hts := atoms_spec (ws := (ws_ yX1_write cX1_write 6 (some .int))) B.pre
  have hts : ∀ w ∈ lw_all, w.before _ s = true := fun w h => hts w (List.mem_cons_of_mem _ h)
  have hown : s.vm.findClass RX1 = some m.cls := findClass_of_methodNamed B.named
  have hlocks := B.notSynchronized
  subst hsz
  generalize hAe : va_A [] s.heap.size = A
  have hA : ∀ q : Nat, s.heap.size ≤ q → A q := fun q h => by rw [← hAe]; exact Or.inr h
  have hS : va_S A s.heap s.heap [] := va_S.rf
  have hP : va_P D vwCl (cs_wM ad cI cZ n ky vl sp nd cm hs pl sh) s.heap := hP
  have hl := lv_entry ([.ref (ad 0), .int p0, .int p1, .int p2]) (n := 6) (Nat.le_of_ble_eq_true rfl)
  rw [lg_entry_eq]
  generalize (lg_sl ([.ref (ad 0), .int p0, .int p1, .int p2]) ++ List.replicate (6 - (lg_sl ([.ref (ad 0), .int p0, .int p1, .int p2])).length) Slot.unset).toArray = ls at hl ⊢
  have hl : lv_has ls 6 [(0, .ref (ad 0)), (1, .int p0), (2, .int p1), (3, .int p2)] := hl
  refine lv_aload_n hx hb dX1_write_0 rfl (lv_at hl 0 rfl) ?_
  refine lv_iload_n hx hb dX1_write_1 rfl (lv_at hl 1 rfl) ?_
  refine cs_callRV (C := RX1) (As := [.int p0]) (rest := []) ⟨hx, hb, hml, hown, hts⟩ (cs_three_t l D h) (cwV 1 hts (lw_V q195 q197 qs6 q13 q198) rfl rfl rfl (by decide +kernel) ⟨Nat.le_of_ble_eq_true rfl, Nat.le_of_ble_eq_true rfl⟩) (va_recv hK hP (ci := 1) (q0 := 0) rfl rfl) cs_P0 hK hP hS hA rfl hl.1 rfl (Nat.le_of_ble_eq_true rfl) dX1_write_2 ⟨Nat.zero_le _, Nat.zero_le _⟩ (fun H locs hP hS => ?_)
  refine cs_zne (tgt := 10) hx hb dX1_write_5 (by decide) (fun h9 => absurd h9 (by decide)) (fun h9 => ?_)
  refine lv_iconst (v := -1) hx hb dX1_write_8 (by decide) ?_
  exact W.iret (v := (-1)) hx hb hr (fun t ht hW => ⟨⟨(-1), (), rfl, rfl, trivial⟩, hS.F ht⟩) hS.2.2 dX1_write_9

set_option maxHeartbeats 4000000 in
set_option maxRecDepth 100000 in
theorem cm_write_2 (l : Launch) (D : va_G) {ad : Nat → Nat} {cI cZ : ClassId} {n : Nat} {ky : Nat → Nat} {vl : Nat → Int32} {sp : Nat → Int32} {nd : Nat → Bool} {cm : Nat → Bool} {hs : Nat → Bool} {pl : Nat → Nat} {sh : Nat → Bool} (u : Nat) {p1 p2 : Int32} (hu : u < 3) (h : cs_nk p1 = true) : cs_MR l yX1_write (ws_ yX1_write cX1_write 6 (some .int)) ({ frames := 3, cells := 0, slots := 0, locals := 71 }) D vwCl (cs_wM ad cI cZ n ky vl sp nd cm hs pl sh) (cs_tM cI cZ) [.ref (ad 0), .int (nI u), .int p1, .int p2] (-2) := by
  intro sz
  refine Met.ofW (cc := cX1_write) (maxL := 6) (ret := (some .int)) (by decide) rfl ?_
  intro p e s m args below meth c s₁ B hml hv9
  obtain ⟨rfl, hsz, hP, hK⟩ := hv9
  have hx := B.exec
  have hb := B.bytes
  have hr := B.returns
  have hts := atoms_spec (ws := (ws_ yX1_write cX1_write 6 (some .int))) B.pre
  have hts : ∀ w ∈ lw_all, w.before _ s = true := fun w h => hts w (List.mem_cons_of_mem _ h)
  have hown : s.vm.findClass RX1 = some m.cls := findClass_of_methodNamed B.named
  have hlocks := B.notSynchronized
  subst hsz
  generalize hAe : va_A [] s.heap.size = A
  have hA : ∀ q : Nat, s.heap.size ≤ q → A q := fun q h => by rw [← hAe]; exact Or.inr h
  have hS : va_S A s.heap s.heap [] := va_S.rf
  have hP : va_P D vwCl (cs_wM ad cI cZ n ky vl sp nd cm hs pl sh) s.heap := hP
  have hl := lv_entry ([.ref (ad 0), .int (nI u), .int p1, .int p2]) (n := 6) (Nat.le_of_ble_eq_true rfl)
  rw [lg_entry_eq]
  generalize (lg_sl ([.ref (ad 0), .int (nI u), .int p1, .int p2]) ++ List.replicate (6 - (lg_sl ([.ref (ad 0), .int (nI u), .int p1, .int p2])).length) Slot.unset).toArray = ls at hl ⊢
  have hl : lv_has ls 6 [(0, .ref (ad 0)), (1, .int (nI u)), (2, .int p1), (3, .int p2)] := hl
  refine lv_aload_n hx hb dX1_write_0 rfl (lv_at hl 0 rfl) ?_
  refine lv_iload_n hx hb dX1_write_1 rfl (lv_at hl 1 rfl) ?_
  refine cs_callRV (C := RX1) (As := [.int (nI u)]) (rest := []) ⟨hx, hb, hml, hown, hts⟩ (cs_three_k l D hu) (cwV 1 hts (lw_V q195 q197 qs6 q13 q198) rfl rfl rfl (by decide +kernel) ⟨Nat.le_of_ble_eq_true rfl, Nat.le_of_ble_eq_true rfl⟩) (va_recv hK hP (ci := 1) (q0 := 0) rfl rfl) cs_P0 hK hP hS hA rfl hl.1 rfl (Nat.le_of_ble_eq_true rfl) dX1_write_2 ⟨Nat.zero_le _, Nat.zero_le _⟩ (fun H locs hP hS => ?_)
  refine cs_zne (tgt := 10) hx hb dX1_write_5 (by decide) (fun h9 => ?_) (fun h9 => absurd h9 (by decide))
  refine lv_aload_n hx hb dX1_write_10 rfl (lv_at hl 0 rfl) ?_
  refine lv_iload_n hx hb dX1_write_11 rfl (lv_at hl 2 rfl) ?_
  refine cs_callRV (C := RX1) (As := [.int p1]) (rest := []) ⟨hx, hb, hml, hown, hts⟩ (cs_isKey_t l D h) (cwV 1 hts (lw_V q199 q201 qs7 q13 q202) rfl rfl rfl (by decide +kernel) ⟨Nat.le_of_ble_eq_true rfl, Nat.le_of_ble_eq_true rfl⟩) (va_recv hK hP (ci := 1) (q0 := 0) rfl rfl) cs_P0 hK hP hS hA rfl hl.1 rfl (Nat.le_of_ble_eq_true rfl) dX1_write_12 ⟨Nat.zero_le _, Nat.zero_le _⟩ (fun H locs hP hS => ?_)
  refine cs_zne (tgt := 21) hx hb dX1_write_15 (by decide) (fun h9 => absurd h9 (by decide)) (fun h9 => ?_)
  refine lv_bipush (v := -2) hx hb dX1_write_18 (by decide) ?_
  exact W.iret (v := (-2)) hx hb hr (fun t ht hW => ⟨⟨(-2), (), rfl, rfl, trivial⟩, hS.F ht⟩) hS.2.2 dX1_write_20

set_option maxHeartbeats 4000000 in
set_option maxRecDepth 100000 in
theorem cm_write_3 (l : Launch) (D : va_G) {ad : Nat → Nat} {cI cZ : ClassId} {n : Nat} {ky : Nat → Nat} {vl : Nat → Int32} {sp : Nat → Int32} {nd : Nat → Bool} {cm : Nat → Bool} {hs : Nat → Bool} {pl : Nat → Nat} {sh : Nat → Bool} (u k : Nat) {p2 : Int32} (hu : u < 3) (hk : k < 6) (hn : n = 40) : cs_MR l yX1_write (ws_ yX1_write cX1_write 6 (some .int)) ({ frames := 3, cells := 0, slots := 0, locals := 71 }) D vwCl (cs_wM ad cI cZ n ky vl sp nd cm hs pl sh) (cs_tM cI cZ) [.ref (ad 0), .int (nI u), .int (nI k), .int p2] (-3) := by
  intro sz
  refine Met.ofW (cc := cX1_write) (maxL := 6) (ret := (some .int)) (by decide) rfl ?_
  intro p e s m args below meth c s₁ B hml hv9
  obtain ⟨rfl, hsz, hP, hK⟩ := hv9
  have hx := B.exec
  have hb := B.bytes
  have hr := B.returns
  have hts := atoms_spec (ws := (ws_ yX1_write cX1_write 6 (some .int))) B.pre
  have hts : ∀ w ∈ lw_all, w.before _ s = true := fun w h => hts w (List.mem_cons_of_mem _ h)
  have hown : s.vm.findClass RX1 = some m.cls := findClass_of_methodNamed B.named
  have hlocks := B.notSynchronized
  subst hsz
  generalize hAe : va_A [] s.heap.size = A
  have hA : ∀ q : Nat, s.heap.size ≤ q → A q := fun q h => by rw [← hAe]; exact Or.inr h
  have hS : va_S A s.heap s.heap [] := va_S.rf
  have hP : va_P D vwCl (cs_wM ad cI cZ n ky vl sp nd cm hs pl sh) s.heap := hP
  have hl := lv_entry ([.ref (ad 0), .int (nI u), .int (nI k), .int p2]) (n := 6) (Nat.le_of_ble_eq_true rfl)
  rw [lg_entry_eq]
  generalize (lg_sl ([.ref (ad 0), .int (nI u), .int (nI k), .int p2]) ++ List.replicate (6 - (lg_sl ([.ref (ad 0), .int (nI u), .int (nI k), .int p2])).length) Slot.unset).toArray = ls at hl ⊢
  have hl : lv_has ls 6 [(0, .ref (ad 0)), (1, .int (nI u)), (2, .int (nI k)), (3, .int p2)] := hl
  refine lv_aload_n hx hb dX1_write_0 rfl (lv_at hl 0 rfl) ?_
  refine lv_iload_n hx hb dX1_write_1 rfl (lv_at hl 1 rfl) ?_
  refine cs_callRV (C := RX1) (As := [.int (nI u)]) (rest := []) ⟨hx, hb, hml, hown, hts⟩ (cs_three_k l D hu) (cwV 1 hts (lw_V q195 q197 qs6 q13 q198) rfl rfl rfl (by decide +kernel) ⟨Nat.le_of_ble_eq_true rfl, Nat.le_of_ble_eq_true rfl⟩) (va_recv hK hP (ci := 1) (q0 := 0) rfl rfl) cs_P0 hK hP hS hA rfl hl.1 rfl (Nat.le_of_ble_eq_true rfl) dX1_write_2 ⟨Nat.zero_le _, Nat.zero_le _⟩ (fun H locs hP hS => ?_)
  refine cs_zne (tgt := 10) hx hb dX1_write_5 (by decide) (fun h9 => ?_) (fun h9 => absurd h9 (by decide))
  refine lv_aload_n hx hb dX1_write_10 rfl (lv_at hl 0 rfl) ?_
  refine lv_iload_n hx hb dX1_write_11 rfl (lv_at hl 2 rfl) ?_
  refine cs_callRV (C := RX1) (As := [.int (nI k)]) (rest := []) ⟨hx, hb, hml, hown, hts⟩ (cs_isKey_k l D hk) (cwV 1 hts (lw_V q199 q201 qs7 q13 q202) rfl rfl rfl (by decide +kernel) ⟨Nat.le_of_ble_eq_true rfl, Nat.le_of_ble_eq_true rfl⟩) (va_recv hK hP (ci := 1) (q0 := 0) rfl rfl) cs_P0 hK hP hS hA rfl hl.1 rfl (Nat.le_of_ble_eq_true rfl) dX1_write_12 ⟨Nat.zero_le _, Nat.zero_le _⟩ (fun H locs hP hS => ?_)
  refine cs_zne (tgt := 21) hx hb dX1_write_15 (by decide) (fun h9 => ?_) (fun h9 => absurd h9 (by decide))
  refine lv_aload_n hx hb dX1_write_21 rfl (lv_at hl 0 rfl) ?_
  refine va_get (D := D) (ci := 1) (v := .int (nI n)) (C := RX1) (T := TX1) (N := 9) hx hb hts in_X1 hown hK hP 0 rfl rfl 0 (by decide) (hts _ q162) (fun _ h9 => h9) rfl dX1_write_22 ?_
  refine lv_bipush (v := nI 40) hx hb dX1_write_25 (by decide) ?_
  refine cs_jne (tgt := 33) hx hb dX1_write_27 (by decide) (by omega) (by omega) (fun h7 => absurd hn h7) (fun h7 => ?_)
  refine lv_bipush (v := -3) hx hb dX1_write_30 (by decide) ?_
  exact W.iret (v := (-3)) hx hb hr (fun t ht hW => ⟨⟨(-3), (), rfl, rfl, trivial⟩, hS.F ht⟩) hS.2.2 dX1_write_32

set_option maxHeartbeats 4000000 in
set_option maxRecDepth 100000 in
theorem cm_write_loop {p : Program} {l : Launch} {e : Env} {R : Room} {s : State} {m : MethodId} {args : Array Value} {below : List Frame} {meth : Method} {c : Code} {Q : State → Prop} {D : va_G} {A : Nat → Prop} {H0 : Heap} (hx : p.tables.exec = Jvm.exec) (hb : c.code = cX1_write) (hml : c.maxLocals = 6) (hown : s.vm.findClass RX1 = some m.cls) (hts : ∀ w ∈ lw_all, w.before args s = true) (hA : ∀ q : Nat, H0.size ≤ q → A q) (hR : 0 ≤ R.frames ∧ 0 ≤ R.locals) {ad : Nat → Nat} {cI cZ : ClassId} (hK : va_K D vwCl (cs_tM cI cZ) s) {n : Nat} {ky : Nat → Nat} {vl : Nat → Int32} {sp : Nat → Int32} {cm : Nat → Bool} {hs : Nat → Bool} {pl : Nat → Nat} {sh : Nat → Bool} {nd0 : Nat → Bool} (u k : Nat) (p2 : Int32) (hu : u < 3) (hn : n < 40) (hend : ∀ (nd : Nat → Bool) (x : Int32), (∀ a, a < n → nd (n * 40 + a) = hs (u * 40 + a)) → (∀ q, ¬ (n * 40 ≤ q ∧ q < n * 40 + n) → nd q = nd0 q) → cs_X n sp (fun b => hs (u * 40 + b)) x → ∀ (H : Heap) (locs : List Loc), va_P D vwCl (cs_wM ad cI cZ n ky vl sp nd cm hs pl sh) H → va_D A (cs_wM ad cI cZ n ky vl sp nd cm hs pl sh) → va_S A H0 H locs → ∀ ls : Array Slot, lv_has ls 6 [(0, .ref (ad 0)), (1, .int (nI u)), (2, .int (nI k)), (3, .int p2), (4, .int x), (5, .int (nI n))] → W p l e R s m args below meth c H locs 0 0 Q (F0 m 117 ls [])) :
    ∀ (j i : Nat), i + j = n → ∀ (nd : Nat → Bool) (x : Int32), (∀ a, a < i → nd (n * 40 + a) = hs (u * 40 + a)) → (∀ q, ¬ (n * 40 ≤ q ∧ q < n * 40 + i) → nd q = nd0 q) → cs_X i sp (fun b => hs (u * 40 + b)) x → ∀ (H : Heap) (locs : List Loc), va_P D vwCl (cs_wM ad cI cZ n ky vl sp nd cm hs pl sh) H → va_D A (cs_wM ad cI cZ n ky vl sp nd cm hs pl sh) → va_S A H0 H locs → ∀ ls : Array Slot, lv_has ls 6 [(0, .ref (ad 0)), (1, .int (nI u)), (2, .int (nI k)), (3, .int p2), (4, .int x), (5, .int (nI i))] → W p l e R s m args below meth c H locs 0 0 Q (F0 m 39 ls []) := by
  intro j
  induction j with
  | zero =>
    intro i hi nd x h0 h1 hX H locs hP hD hS ls hl
    refine lv_iload hx hb dX1_write_39 (lv_at hl 5 rfl) ?_
    refine lv_aload_n hx hb dX1_write_41 rfl (lv_at hl 0 rfl) ?_
    refine va_get (D := D) (ci := 1) (v := .int (nI n)) (C := RX1) (T := TX1) (N := 9) hx hb hts in_X1 hown hK hP 0 rfl rfl 0 (by decide) (hts _ q162) (fun _ h9 => h9) rfl dX1_write_42 ?_
    refine cs_jge (tgt := 117) hx hb dX1_write_45 (by decide) (by omega) (by omega) (fun h => ?_) (fun h => absurd h (by omega))
    have hi : i = n := by omega
    subst hi
    exact hend nd x h0 h1 hX H locs hP hD hS ls hl
  | succ j ih =>
    intro i hi nd x h0 h1 hX H locs hP hD hS ls hl
    refine lv_iload hx hb dX1_write_39 (lv_at hl 5 rfl) ?_
    refine lv_aload_n hx hb dX1_write_41 rfl (lv_at hl 0 rfl) ?_
    refine va_get (D := D) (ci := 1) (v := .int (nI n)) (C := RX1) (T := TX1) (N := 9) hx hb hts in_X1 hown hK hP 0 rfl rfl 0 (by decide) (hts _ q162) (fun _ h9 => h9) rfl dX1_write_42 ?_
    refine cs_jge (tgt := 117) hx hb dX1_write_45 (by decide) (by omega) (by omega) (fun h => absurd h (by omega)) (fun h => ?_)
    refine lv_aload_n hx hb dX1_write_48 rfl (lv_at hl 0 rfl) ?_
    refine va_get (D := D) (ci := 1) (v := .ref (ad 4)) (C := RX1) (T := TX1) (N := 9) hx hb hts in_X1 hown hK hP 0 rfl rfl 4 (by decide) (hts _ q166) (fun _ h9 => h9) rfl dX1_write_49 ?_
    refine lv_aload_n hx hb dX1_write_52 rfl (lv_at hl 0 rfl) ?_
    refine va_get (D := D) (ci := 1) (v := .int (nI n)) (C := RX1) (T := TX1) (N := 9) hx hb hts in_X1 hown hK hP 0 rfl rfl 0 (by decide) (hts _ q162) (fun _ h9 => h9) rfl dX1_write_53 ?_
    refine lv_bipush (v := nI 40) hx hb dX1_write_56 (by decide) ?_
    refine cs_imul hx hb dX1_write_58 ?_
    refine lv_iload hx hb dX1_write_59 (lv_at hl 5 rfl) ?_
    refine cs_iadd hx hb dX1_write_61 ?_
    refine lv_aload_n hx hb dX1_write_62 rfl (lv_at hl 0 rfl) ?_
    refine va_get (D := D) (ci := 1) (v := .ref (ad 6)) (C := RX1) (T := TX1) (N := 9) hx hb hts in_X1 hown hK hP 0 rfl rfl 6 (by decide) (hts _ q168) (fun _ h9 => h9) rfl dX1_write_63 ?_
    refine lv_iload_n hx hb dX1_write_66 rfl (lv_at hl 1 rfl) ?_
    refine lv_bipush (v := nI 40) hx hb dX1_write_67 (by decide) ?_
    refine cs_imul hx hb dX1_write_69 ?_
    refine lv_iload hx hb dX1_write_70 (lv_at hl 5 rfl) ?_
    refine cs_iadd hx hb dX1_write_72 ?_
    refine cs_zald hx hb hK hP 6 1 rfl rfl (k := (u * 40) + i) (by omega) (by decide) dX1_write_73 ?_
    refine cs_zast (f := nd) (k := (n * 40) + i) (x := hs ((u * 40) + i)) hx hb hK hP hD hS 4 1 rfl rfl (by omega) (by decide) dX1_write_74 (fun H locs hP hD hS => ?_)
    have hP : va_P D vwCl (cs_wM ad cI cZ n ky vl sp (va_up nd ((n * 40) + i) (hs ((u * 40) + i))) cm hs pl sh) H := hP
    have hD : va_D A (cs_wM ad cI cZ n ky vl sp (va_up nd ((n * 40) + i) (hs ((u * 40) + i))) cm hs pl sh) := hD
    refine lv_aload_n hx hb dX1_write_75 rfl (lv_at hl 0 rfl) ?_
    refine va_get (D := D) (ci := 1) (v := .ref (ad 6)) (C := RX1) (T := TX1) (N := 9) hx hb hts in_X1 hown hK hP 0 rfl rfl 6 (by decide) (hts _ q168) (fun _ h9 => h9) rfl dX1_write_76 ?_
    refine lv_iload_n hx hb dX1_write_79 rfl (lv_at hl 1 rfl) ?_
    refine lv_bipush (v := nI 40) hx hb dX1_write_80 (by decide) ?_
    refine cs_imul hx hb dX1_write_82 ?_
    refine lv_iload hx hb dX1_write_83 (lv_at hl 5 rfl) ?_
    refine cs_iadd hx hb dX1_write_85 ?_
    refine cs_zald hx hb hK hP 6 1 rfl rfl (k := (u * 40) + i) (by omega) (by decide) dX1_write_86 ?_
    refine cs_zeq (tgt := 111) hx hb dX1_write_87 (by decide) (fun h2 => ?_) (fun h2 => ?_)
    · refine lv_iinc (v := nI (i + 1)) (lv' := [(5, .int (nI (i + 1))), (0, .ref (ad 0)), (1, .int (nI u)), (2, .int (nI k)), (3, .int p2), (4, .int x)]) hx hb dX1_write_111 hl (k := 5) rfl (cs_inc _) (by decide) rfl (fun ls hl => ?_)
      refine lv_goto (tgt := 39) hx hb dX1_write_114 (by decide) ?_
      exact ih (i + 1) (by omega) _ x (lt_s (fun a ha => by rw [va_up_ne _ _ (by omega)]; exact h0 a ha) (va_up_self _ _ _)) (fun q hq => by rw [va_up_ne _ _ (by omega)]; exact h1 q (by omega)) (cs_X_skip hX (Or.inl h2)) H locs hP hD hS ls (lv_sub hl [1, 2, 3, 4, 5, 0] rfl)
    · refine lv_aload_n hx hb dX1_write_90 rfl (lv_at hl 0 rfl) ?_
      refine va_get (D := D) (ci := 1) (v := .ref (ad 3)) (C := RX1) (T := TX1) (N := 9) hx hb hts in_X1 hown hK hP 0 rfl rfl 3 (by decide) (hts _ q165) (fun _ h9 => h9) rfl dX1_write_91 ?_
      refine lv_iload hx hb dX1_write_94 (lv_at hl 5 rfl) ?_
      refine cs_iald hx hb hK hP 3 0 rfl rfl (k := i) (by omega) (by decide) dX1_write_96 ?_
      refine lv_iload hx hb dX1_write_97 (lv_at hl 4 rfl) ?_
      refine lv_icmp_le (tgt := 111) hx hb dX1_write_99 (by decide) (fun h3 => ?_) (fun h3 => ?_)
      · refine lv_iinc (v := nI (i + 1)) (lv' := [(5, .int (nI (i + 1))), (0, .ref (ad 0)), (1, .int (nI u)), (2, .int (nI k)), (3, .int p2), (4, .int x)]) hx hb dX1_write_111 hl (k := 5) rfl (cs_inc _) (by decide) rfl (fun ls hl => ?_)
        refine lv_goto (tgt := 39) hx hb dX1_write_114 (by decide) ?_
        exact ih (i + 1) (by omega) _ x (lt_s (fun a ha => by rw [va_up_ne _ _ (by omega)]; exact h0 a ha) (va_up_self _ _ _)) (fun q hq => by rw [va_up_ne _ _ (by omega)]; exact h1 q (by omega)) (cs_X_skip hX (Or.inr h3)) H locs hP hD hS ls (lv_sub hl [1, 2, 3, 4, 5, 0] rfl)
      · refine lv_aload_n hx hb dX1_write_102 rfl (lv_at hl 0 rfl) ?_
        refine va_get (D := D) (ci := 1) (v := .ref (ad 3)) (C := RX1) (T := TX1) (N := 9) hx hb hts in_X1 hown hK hP 0 rfl rfl 3 (by decide) (hts _ q165) (fun _ h9 => h9) rfl dX1_write_103 ?_
        refine lv_iload hx hb dX1_write_106 (lv_at hl 5 rfl) ?_
        refine cs_iald hx hb hK hP 3 0 rfl rfl (k := i) (by omega) (by decide) dX1_write_108 ?_
        refine lv_istore (lv' := [(4, .int (sp i)), (0, .ref (ad 0)), (1, .int (nI u)), (2, .int (nI k)), (3, .int p2), (5, .int (nI i))]) hx hb dX1_write_109 hl (by decide) rfl (fun ls hl => ?_)
        refine lv_iinc (v := nI (i + 1)) (lv' := [(5, .int (nI (i + 1))), (4, .int (sp i)), (0, .ref (ad 0)), (1, .int (nI u)), (2, .int (nI k)), (3, .int p2)]) hx hb dX1_write_111 hl (k := 5) rfl (cs_inc _) (by decide) rfl (fun ls hl => ?_)
        refine lv_goto (tgt := 39) hx hb dX1_write_114 (by decide) ?_
        exact ih (i + 1) (by omega) _ (sp i) (lt_s (fun a ha => by rw [va_up_ne _ _ (by omega)]; exact h0 a ha) (va_up_self _ _ _)) (fun q hq => by rw [va_up_ne _ _ (by omega)]; exact h1 q (by omega)) (cs_X_take hX h2 (cs_nlt.mp h3)) H locs hP hD hS ls (lv_sub hl [2, 3, 4, 5, 1, 0] rfl)

set_option maxHeartbeats 4000000 in
set_option maxRecDepth 100000 in
theorem cm_write_4 (l : Launch) (D : va_G) {ad : Nat → Nat} {cI cZ : ClassId} {n : Nat} {ky : Nat → Nat} {vl : Nat → Int32} {sp : Nat → Int32} {nd : Nat → Bool} {cm : Nat → Bool} {hs : Nat → Bool} {pl : Nat → Nat} {sh : Nat → Bool} (u k : Nat) {p2 : Int32} (hu : u < 3) (hk : k < 6) (hn : n < 40) (hpl : pl u < 3) (x : Int32) (hX : cs_X n sp (fun b => hs (u * 40 + b)) x) : cs_MW l yX1_write (ws_ yX1_write cX1_write 6 (some .int)) ({ frames := 3, cells := 0, slots := 0, locals := 71 }) D vwCl (cs_wM ad cI cZ n ky vl sp nd cm hs pl sh) (cs_tM cI cZ) [.ref (ad 0), .int (nI u), .int (nI k), .int p2] (fun r w' => r = nI n ∧ ∃ nd1 : Nat → Bool, (∀ a, a < n → nd1 (n * 40 + a) = hs (u * 40 + a)) ∧ (∀ q, ¬ (n * 40 ≤ q ∧ q < n * 40 + n) → nd1 q = nd q) ∧ w' = cs_wM ad cI cZ ((n + 1)) ((va_up ky n k)) ((va_up vl n p2)) ((va_up sp n (x + 1))) nd1 ((va_up cm (pl u * 40 + n) true)) ((va_up hs (u * 40 + n) true)) pl sh) := by
  intro sz
  refine Met.ofW (cc := cX1_write) (maxL := 6) (ret := (some .int)) (by decide) rfl ?_
  intro p e s m args below meth c s₁ B hml hv9
  obtain ⟨rfl, hsz, hP, hK, hD0⟩ := hv9
  have hx := B.exec
  have hb := B.bytes
  have hr := B.returns
  have hts := atoms_spec (ws := (ws_ yX1_write cX1_write 6 (some .int))) B.pre
  have hts : ∀ w ∈ lw_all, w.before _ s = true := fun w h => hts w (List.mem_cons_of_mem _ h)
  have hown : s.vm.findClass RX1 = some m.cls := findClass_of_methodNamed B.named
  have hlocks := B.notSynchronized
  subst hsz
  have hD := hD0.self (sz := s.heap.size)
  generalize hAe : va_A (cs_wM ad cI cZ n ky vl sp nd cm hs pl sh) s.heap.size = A at hD ⊢
  have hA : ∀ q : Nat, s.heap.size ≤ q → A q := fun q h => by rw [← hAe]; exact Or.inr h
  have hS : va_S A s.heap s.heap [] := va_S.rf
  have hP : va_P D vwCl (cs_wM ad cI cZ n ky vl sp nd cm hs pl sh) s.heap := hP
  have hl := lv_entry ([.ref (ad 0), .int (nI u), .int (nI k), .int p2]) (n := 6) (Nat.le_of_ble_eq_true rfl)
  rw [lg_entry_eq]
  generalize (lg_sl ([.ref (ad 0), .int (nI u), .int (nI k), .int p2]) ++ List.replicate (6 - (lg_sl ([.ref (ad 0), .int (nI u), .int (nI k), .int p2])).length) Slot.unset).toArray = ls at hl ⊢
  have hl : lv_has ls 6 [(0, .ref (ad 0)), (1, .int (nI u)), (2, .int (nI k)), (3, .int p2)] := hl
  refine lv_aload_n hx hb dX1_write_0 rfl (lv_at hl 0 rfl) ?_
  refine lv_iload_n hx hb dX1_write_1 rfl (lv_at hl 1 rfl) ?_
  refine cs_callRV (C := RX1) (As := [.int (nI u)]) (rest := []) ⟨hx, hb, hml, hown, hts⟩ (cs_three_k l D hu) (cwV 1 hts (lw_V q195 q197 qs6 q13 q198) rfl rfl rfl (by decide +kernel) ⟨Nat.le_of_ble_eq_true rfl, Nat.le_of_ble_eq_true rfl⟩) (va_recv hK hP (ci := 1) (q0 := 0) rfl rfl) cs_P0 hK hP hS hA rfl hl.1 rfl (Nat.le_of_ble_eq_true rfl) dX1_write_2 ⟨Nat.zero_le _, Nat.zero_le _⟩ (fun H locs hP hS => ?_)
  refine cs_zne (tgt := 10) hx hb dX1_write_5 (by decide) (fun h9 => ?_) (fun h9 => absurd h9 (by decide))
  refine lv_aload_n hx hb dX1_write_10 rfl (lv_at hl 0 rfl) ?_
  refine lv_iload_n hx hb dX1_write_11 rfl (lv_at hl 2 rfl) ?_
  refine cs_callRV (C := RX1) (As := [.int (nI k)]) (rest := []) ⟨hx, hb, hml, hown, hts⟩ (cs_isKey_k l D hk) (cwV 1 hts (lw_V q199 q201 qs7 q13 q202) rfl rfl rfl (by decide +kernel) ⟨Nat.le_of_ble_eq_true rfl, Nat.le_of_ble_eq_true rfl⟩) (va_recv hK hP (ci := 1) (q0 := 0) rfl rfl) cs_P0 hK hP hS hA rfl hl.1 rfl (Nat.le_of_ble_eq_true rfl) dX1_write_12 ⟨Nat.zero_le _, Nat.zero_le _⟩ (fun H locs hP hS => ?_)
  refine cs_zne (tgt := 21) hx hb dX1_write_15 (by decide) (fun h9 => ?_) (fun h9 => absurd h9 (by decide))
  refine lv_aload_n hx hb dX1_write_21 rfl (lv_at hl 0 rfl) ?_
  refine va_get (D := D) (ci := 1) (v := .int (nI n)) (C := RX1) (T := TX1) (N := 9) hx hb hts in_X1 hown hK hP 0 rfl rfl 0 (by decide) (hts _ q162) (fun _ h9 => h9) rfl dX1_write_22 ?_
  refine lv_bipush (v := nI 40) hx hb dX1_write_25 (by decide) ?_
  refine cs_jne (tgt := 33) hx hb dX1_write_27 (by decide) (by omega) (by omega) (fun h7 => ?_) (fun h7 => absurd h7 (by omega))
  refine lv_iconst (v := 0) hx hb dX1_write_33 (by decide) ?_
  refine lv_istore (lv' := [(4, .int (0)), (0, .ref (ad 0)), (1, .int (nI u)), (2, .int (nI k)), (3, .int p2)]) hx hb dX1_write_34 hl (by decide) rfl (fun ls hl => ?_)
  refine lv_iconst (v := nI 0) hx hb dX1_write_36 (by decide) ?_
  refine lv_istore (lv' := [(5, .int (nI 0)), (4, .int (0)), (0, .ref (ad 0)), (1, .int (nI u)), (2, .int (nI k)), (3, .int p2)]) hx hb dX1_write_37 hl (by decide) rfl (fun ls hl => ?_)
  refine cm_write_loop hx hb hml hown hts hA ⟨Nat.zero_le _, Nat.zero_le _⟩ hK u k p2 hu hn (fun nd1 x1 g0 g1 gX H locs hP hD hS ls hl => ?_) n 0 (by omega) nd 0 (fun a ha => absurd ha (by omega)) (fun q _ => rfl) cs_X_0 _ _ hP hD hS ls (lv_sub hl [2, 3, 4, 5, 1, 0] rfl)
  have hx9 := cs_X_uniq gX hX
  subst hx9
  refine lv_aload_n hx hb dX1_write_117 rfl (lv_at hl 0 rfl) ?_
  refine va_get (D := D) (ci := 1) (v := .ref (ad 1)) (C := RX1) (T := TX1) (N := 9) hx hb hts in_X1 hown hK hP 0 rfl rfl 1 (by decide) (hts _ q163) (fun _ h9 => h9) rfl dX1_write_118 ?_
  refine lv_aload_n hx hb dX1_write_121 rfl (lv_at hl 0 rfl) ?_
  refine va_get (D := D) (ci := 1) (v := .int (nI n)) (C := RX1) (T := TX1) (N := 9) hx hb hts in_X1 hown hK hP 0 rfl rfl 0 (by decide) (hts _ q162) (fun _ h9 => h9) rfl dX1_write_122 ?_
  refine lv_iload_n hx hb dX1_write_125 rfl (lv_at hl 2 rfl) ?_
  refine cs_iastN (f := ky) (k := n) (x := k) hx hb hK hP hD hS 1 0 rfl rfl (by omega) (by decide) dX1_write_126 (fun H locs hP hD hS => ?_)
  have hP : va_P D vwCl (cs_wM ad cI cZ n (va_up ky n k) vl sp nd1 cm hs pl sh) H := hP
  have hD : va_D A (cs_wM ad cI cZ n (va_up ky n k) vl sp nd1 cm hs pl sh) := hD
  refine lv_aload_n hx hb dX1_write_127 rfl (lv_at hl 0 rfl) ?_
  refine va_get (D := D) (ci := 1) (v := .ref (ad 2)) (C := RX1) (T := TX1) (N := 9) hx hb hts in_X1 hown hK hP 0 rfl rfl 2 (by decide) (hts _ q164) (fun _ h9 => h9) rfl dX1_write_128 ?_
  refine lv_aload_n hx hb dX1_write_131 rfl (lv_at hl 0 rfl) ?_
  refine va_get (D := D) (ci := 1) (v := .int (nI n)) (C := RX1) (T := TX1) (N := 9) hx hb hts in_X1 hown hK hP 0 rfl rfl 0 (by decide) (hts _ q162) (fun _ h9 => h9) rfl dX1_write_132 ?_
  refine lv_iload_n hx hb dX1_write_135 rfl (lv_at hl 3 rfl) ?_
  refine cs_iast (f := vl) (k := n) (x := p2) hx hb hK hP hD hS 2 0 rfl rfl (by omega) (by decide) dX1_write_136 (fun H locs hP hD hS => ?_)
  have hP : va_P D vwCl (cs_wM ad cI cZ n (va_up ky n k) (va_up vl n p2) sp nd1 cm hs pl sh) H := hP
  have hD : va_D A (cs_wM ad cI cZ n (va_up ky n k) (va_up vl n p2) sp nd1 cm hs pl sh) := hD
  refine lv_aload_n hx hb dX1_write_137 rfl (lv_at hl 0 rfl) ?_
  refine va_get (D := D) (ci := 1) (v := .ref (ad 3)) (C := RX1) (T := TX1) (N := 9) hx hb hts in_X1 hown hK hP 0 rfl rfl 3 (by decide) (hts _ q165) (fun _ h9 => h9) rfl dX1_write_138 ?_
  refine lv_aload_n hx hb dX1_write_141 rfl (lv_at hl 0 rfl) ?_
  refine va_get (D := D) (ci := 1) (v := .int (nI n)) (C := RX1) (T := TX1) (N := 9) hx hb hts in_X1 hown hK hP 0 rfl rfl 0 (by decide) (hts _ q162) (fun _ h9 => h9) rfl dX1_write_142 ?_
  refine lv_iload hx hb dX1_write_145 (lv_at hl 4 rfl) ?_
  refine lv_iconst (v := 1) hx hb dX1_write_147 (by decide) ?_
  refine lv_iadd hx hb dX1_write_148 ?_
  refine cs_iast (f := sp) (k := n) (x := (x1 + ((1)))) hx hb hK hP hD hS 3 0 rfl rfl (by omega) (by decide) dX1_write_149 (fun H locs hP hD hS => ?_)
  have hP : va_P D vwCl (cs_wM ad cI cZ n (va_up ky n k) (va_up vl n p2) (va_up sp n ((x1 + ((1))))) nd1 cm hs pl sh) H := hP
  have hD : va_D A (cs_wM ad cI cZ n (va_up ky n k) (va_up vl n p2) (va_up sp n ((x1 + ((1))))) nd1 cm hs pl sh) := hD
  refine lv_aload_n hx hb dX1_write_150 rfl (lv_at hl 0 rfl) ?_
  refine va_get (D := D) (ci := 1) (v := .ref (ad 5)) (C := RX1) (T := TX1) (N := 9) hx hb hts in_X1 hown hK hP 0 rfl rfl 5 (by decide) (hts _ q167) (fun _ h9 => h9) rfl dX1_write_151 ?_
  refine lv_aload_n hx hb dX1_write_154 rfl (lv_at hl 0 rfl) ?_
  refine va_get (D := D) (ci := 1) (v := .ref (ad 7)) (C := RX1) (T := TX1) (N := 9) hx hb hts in_X1 hown hK hP 0 rfl rfl 7 (by decide) (hts _ q169) (fun _ h9 => h9) rfl dX1_write_155 ?_
  refine lv_iload_n hx hb dX1_write_158 rfl (lv_at hl 1 rfl) ?_
  refine cs_iald hx hb hK hP 7 0 rfl rfl (k := u) (by omega) (by decide) dX1_write_159 ?_
  refine lv_bipush (v := nI 40) hx hb dX1_write_160 (by decide) ?_
  refine cs_imul hx hb dX1_write_162 ?_
  refine lv_aload_n hx hb dX1_write_163 rfl (lv_at hl 0 rfl) ?_
  refine va_get (D := D) (ci := 1) (v := .int (nI n)) (C := RX1) (T := TX1) (N := 9) hx hb hts in_X1 hown hK hP 0 rfl rfl 0 (by decide) (hts _ q162) (fun _ h9 => h9) rfl dX1_write_164 ?_
  refine cs_iadd hx hb dX1_write_167 ?_
  refine lv_iconst (v := cs_b true) hx hb dX1_write_168 (by decide) ?_
  refine cs_zast (f := cm) (k := ((pl u) * 40) + n) (x := true) hx hb hK hP hD hS 5 1 rfl rfl (by omega) (by decide) dX1_write_169 (fun H locs hP hD hS => ?_)
  have hP : va_P D vwCl (cs_wM ad cI cZ n (va_up ky n k) (va_up vl n p2) (va_up sp n ((x1 + ((1))))) nd1 (va_up cm (((pl u) * 40) + n) true) hs pl sh) H := hP
  have hD : va_D A (cs_wM ad cI cZ n (va_up ky n k) (va_up vl n p2) (va_up sp n ((x1 + ((1))))) nd1 (va_up cm (((pl u) * 40) + n) true) hs pl sh) := hD
  refine lv_aload_n hx hb dX1_write_170 rfl (lv_at hl 0 rfl) ?_
  refine va_get (D := D) (ci := 1) (v := .ref (ad 6)) (C := RX1) (T := TX1) (N := 9) hx hb hts in_X1 hown hK hP 0 rfl rfl 6 (by decide) (hts _ q168) (fun _ h9 => h9) rfl dX1_write_171 ?_
  refine lv_iload_n hx hb dX1_write_174 rfl (lv_at hl 1 rfl) ?_
  refine lv_bipush (v := nI 40) hx hb dX1_write_175 (by decide) ?_
  refine cs_imul hx hb dX1_write_177 ?_
  refine lv_aload_n hx hb dX1_write_178 rfl (lv_at hl 0 rfl) ?_
  refine va_get (D := D) (ci := 1) (v := .int (nI n)) (C := RX1) (T := TX1) (N := 9) hx hb hts in_X1 hown hK hP 0 rfl rfl 0 (by decide) (hts _ q162) (fun _ h9 => h9) rfl dX1_write_179 ?_
  refine cs_iadd hx hb dX1_write_182 ?_
  refine lv_iconst (v := cs_b true) hx hb dX1_write_183 (by decide) ?_
  refine cs_zast (f := hs) (k := (u * 40) + n) (x := true) hx hb hK hP hD hS 6 1 rfl rfl (by omega) (by decide) dX1_write_184 (fun H locs hP hD hS => ?_)
  have hP : va_P D vwCl (cs_wM ad cI cZ n (va_up ky n k) (va_up vl n p2) (va_up sp n ((x1 + ((1))))) nd1 (va_up cm (((pl u) * 40) + n) true) (va_up hs ((u * 40) + n) true) pl sh) H := hP
  have hD : va_D A (cs_wM ad cI cZ n (va_up ky n k) (va_up vl n p2) (va_up sp n ((x1 + ((1))))) nd1 (va_up cm (((pl u) * 40) + n) true) (va_up hs ((u * 40) + n) true) pl sh) := hD
  refine lv_aload_n hx hb dX1_write_185 rfl (lv_at hl 0 rfl) ?_
  refine lv_dup hx hb dX1_write_186 rfl ?_
  refine va_get (D := D) (ci := 1) (v := .int (nI n)) (C := RX1) (T := TX1) (N := 9) hx hb hts in_X1 hown hK hP 0 rfl rfl 0 (by decide) (hts _ q162) (fun _ h9 => h9) rfl dX1_write_187 ?_
  refine lv_iconst (v := nI 1) hx hb dX1_write_190 (by decide) ?_
  refine cs_iadd hx hb dX1_write_191 ?_
  refine va_put (D := D) (ci := 1) (v := .int (nI (n + 1))) (ty := .int) (C := RX1) (T := TX1) (N := 9) hx hb hts in_X1 tyX1 tyX1_ok nmX1 hown hK hP hD hS 0 rfl rfl 0 (by decide) (hts _ q162) (fun _ h9 => h9) rfl (by decide +kernel) rfl rfl (Nat.le_of_ble_eq_true rfl) dX1_write_192 (fun H locs hP hD hS => ?_)
  have hP : va_P D vwCl (cs_wM ad cI cZ (n + 1) (va_up ky n k) (va_up vl n p2) (va_up sp n ((x1 + ((1))))) nd1 (va_up cm (((pl u) * 40) + n) true) (va_up hs ((u * 40) + n) true) pl sh) H := hP
  have hD : va_D A (cs_wM ad cI cZ (n + 1) (va_up ky n k) (va_up vl n p2) (va_up sp n ((x1 + ((1))))) nd1 (va_up cm (((pl u) * 40) + n) true) (va_up hs ((u * 40) + n) true) pl sh) := hD
  refine lv_aload_n hx hb dX1_write_195 rfl (lv_at hl 0 rfl) ?_
  refine va_get (D := D) (ci := 1) (v := .int (nI (n + 1))) (C := RX1) (T := TX1) (N := 9) hx hb hts in_X1 hown hK hP 0 rfl rfl 0 (by decide) (hts _ q162) (fun _ h9 => h9) rfl dX1_write_196 ?_
  refine lv_iconst (v := nI 1) hx hb dX1_write_199 (by decide) ?_
  refine cs_isub hx hb (by omega) dX1_write_200 ?_
  refine cs_ti (y := (nI n)) rfl ?_
  exact W.iret (v := (nI n)) hx hb hr (fun t ht hW => ⟨⟨(nI n), cs_wM ad cI cZ (n + 1) (va_up ky n k) (va_up vl n p2) (va_up sp n ((x1 + ((1))))) nd1 (va_up cm (((pl u) * 40) + n) true) (va_up hs ((u * 40) + n) true) pl sh, rfl, ⟨rfl, nd1, g0, g1, rfl⟩, by rw [ht]; exact hP, hD⟩, hS.F ht⟩) hS.2.2 dX1_write_201
end
section
/-! PLAIN LAW, the store's side: one centre, and what 'arrive' does to it -/
theorem cs_pig : ∀ (n m : Nat) (f : Nat → Nat), (∀ j, j < m → f j < n) → (∀ a b, a < m → b < m → f a = f b → a = b) → m ≤ n
  | 0, m, f, h, _ => by
    rcases Nat.eq_zero_or_pos m with q | q
    · omega
    · exact absurd (h 0 q) (by omega)
  | n + 1, m, f, h, hi => by
    by_cases hx : ∃ j, j < m ∧ f j = n
    · obtain ⟨j0, h1, h2⟩ := hx
      have key : m - 1 ≤ n := by
        refine cs_pig n (m - 1) (fun j => if j = j0 then f (m - 1) else f j) (fun j hj => ?_) (fun a b ha hb e => ?_)
        · show (if j = j0 then f (m - 1) else f j) < n
          by_cases e : j = j0
          · rw [if_pos e]
            have a1 := h (m - 1) (by omega)
            have a2 : ¬ f (m - 1) = n := fun q => by
              have := hi (m - 1) j0 (by omega) h1 (q.trans h2.symm)
              omega
            omega
          · rw [if_neg e]
            have a1 := h j (by omega)
            have a2 : ¬ f j = n := fun q => e (hi j j0 (by omega) h1 (q.trans h2.symm))
            omega
        · have e : (if a = j0 then f (m - 1) else f a) = (if b = j0 then f (m - 1) else f b) := e
          by_cases e1 : a = j0
          · by_cases e2 : b = j0
            · omega
            · rw [if_pos e1, if_neg e2] at e
              have := hi (m - 1) b (by omega) (by omega) e
              omega
          · by_cases e2 : b = j0
            · rw [if_neg e1, if_pos e2] at e
              have := hi a (m - 1) (by omega) (by omega) e
              omega
            · rw [if_neg e1, if_neg e2] at e
              exact hi a b (by omega) (by omega) e
      omega
    · have := cs_pig n m f (fun j hj => by
        have a1 := h j hj
        have a2 : ¬ f j = n := fun q => hx ⟨j, hj, q⟩
        omega) hi
      omega
theorem cs_x_add {S : Int64} {v : Nat} (hv : v < 64) (b : Nat) : cs_x (S ||| cs_l v) b = (cs_x S b || decide (b = v)) := by
  rw [cs_x_or, cs_x_l hv]
theorem cs_x_add_v {S : Int64} {v : Nat} (hv : v < 64) : cs_x (S ||| cs_l v) v = true := by
  rw [cs_x_add hv]
  simp
theorem cs_x_add_n {S : Int64} {v b : Nat} (hv : v < 64) (h : ¬ b = v) : cs_x (S ||| cs_l v) b = cs_x S b := by
  rw [cs_x_add hv]
  simp [h]
theorem cs_x_add_t {S : Int64} {v b : Nat} (hv : v < 64) (h : cs_x S b = true) : cs_x (S ||| cs_l v) b = true := by
  rw [cs_x_add hv, h]
  rfl
theorem cs_tf {b : Bool} (h : ¬ b = true) : b = false := by
  cases b with
  | false => rfl
  | true => exact absurd rfl h
/-! a winner when a version comes in -/
theorem cs_W_off {n : Nat} {ky : Nat → Nat} {sp : Nat → Int32} {V V' : Nat → Bool} {k v : Nat} {o : Option Nat} (h : cs_W n ky sp V k o) (hV : ∀ b, V' b = (V b || decide (b = v))) (hk : ¬ ky v = k) : cs_W n ky sp V' k o := by
  have e : ∀ b, ky b = k → V' b = V b := fun b hb => by
    rw [hV b]
    have : ¬ b = v := fun q => hk (by rw [← q]; exact hb)
    simp [this]
  cases o with
  | none => exact fun b hb hVb hkb => h b hb (by rw [← e b hkb]; exact hVb) hkb
  | some j =>
    obtain ⟨h1, h2, h3, h4⟩ := h
    exact ⟨h1, by rw [e j h3]; exact h2, h3, fun b hb hVb hkb => h4 b hb (by rw [← e b hkb]; exact hVb) hkb⟩
theorem cs_W_add {n : Nat} {ky : Nat → Nat} {sp : Nat → Int32} {V V' : Nat → Bool} {k v : Nat} {o : Option Nat} (h : cs_W n ky sp V k o) (hV : ∀ b, V' b = (V b || decide (b = v))) (hvn : v < n) (hk : ky v = k) : cs_W n ky sp V' k (if cs_beat sp v o then some v else o) := by
  have hvv : V' v = true := by rw [hV v]; simp
  have e : ∀ b, V' b = true → b = v ∨ V b = true := fun b hb => by
    rw [hV b] at hb
    by_cases q : b = v
    · exact Or.inl q
    · simp [q] at hb
      exact Or.inr hb
  cases o with
  | none =>
    rw [if_pos (show cs_beat sp v none = true from rfl)]
    refine ⟨hvn, hvv, hk, fun b hb hVb hkb => ?_⟩
    rcases e b hVb with q | q
    · subst q
      exact Or.inr ⟨rfl, Nat.le_refl _⟩
    · exact absurd hkb (h b hb q)
  | some j =>
    obtain ⟨h1, h2, h3, h4⟩ := h
    by_cases es : sp v = sp j
    · rw [cs_beat_e es]
      by_cases q : j < v
      · rw [decide_eq_true q, if_pos rfl]
        refine ⟨hvn, hvv, hk, fun b hb hVb hkb => ?_⟩
        rcases e b hVb with q1 | q1
        · subst q1
          exact Or.inr ⟨rfl, Nat.le_refl _⟩
        · have := h4 b hb q1 hkb
          rw [cs_eqT] at es
          rw [cs_ltT, cs_eqT] at this
          rw [cs_ltT, cs_eqT]
          omega
      · rw [decide_eq_false q, if_neg (by decide)]
        refine ⟨h1, by rw [hV j, h2]; rfl, h3, fun b hb hVb hkb => ?_⟩
        rcases e b hVb with q1 | q1
        · subst q1
          exact Or.inr ⟨es, by omega⟩
        · exact h4 b hb q1 hkb
    · rw [cs_beat_n es]
      by_cases q : sp j < sp v
      · rw [decide_eq_true q, if_pos rfl]
        refine ⟨hvn, hvv, hk, fun b hb hVb hkb => ?_⟩
        rcases e b hVb with q1 | q1
        · subst q1
          exact Or.inr ⟨rfl, Nat.le_refl _⟩
        · have := h4 b hb q1 hkb
          rw [cs_ltT] at q
          rw [cs_ltT, cs_eqT] at this
          rw [cs_ltT, cs_eqT]
          omega
      · rw [decide_eq_false q, if_neg (by decide)]
        refine ⟨h1, by rw [hV j, h2]; rfl, h3, fun b hb hVb hkb => ?_⟩
        rcases e b hVb with q1 | q1
        · subst q1
          rw [cs_ltT] at q
          rw [cs_eqT] at es
          rw [cs_ltT, cs_eqT]
          omega
        · exact h4 b hb q1 hkb
/-! the loop of 'show' -/
theorem cs_sl_inv {C S : Int64} {dp : Nat → Int64} {z v : Nat} {lk : Nat → Int32} {ch : Nat → Nat} {cd : Nat} : ∀ k : Nat,
    (∀ q, ¬ (z * 40 ≤ q ∧ q < z * 40 + k) → (cs_sl C S dp z v (lk, ch, cd) k).1 q = lk q) ∧
    (∀ w, w < k → cs_wt C S dp v w = true → (cs_sl C S dp z v (lk, ch, cd) k).1 (z * 40 + w) = lk (z * 40 + w) - 1) ∧
    (∀ w, w < k → cs_wt C S dp v w = false → (cs_sl C S dp z v (lk, ch, cd) k).1 (z * 40 + w) = lk (z * 40 + w)) ∧
    cd ≤ (cs_sl C S dp z v (lk, ch, cd) k).2.2 ∧
    (∀ j, j < cd → (cs_sl C S dp z v (lk, ch, cd) k).2.1 j = ch j) ∧
    (∀ j, cd ≤ j → j < (cs_sl C S dp z v (lk, ch, cd) k).2.2 → (cs_sl C S dp z v (lk, ch, cd) k).2.1 j < k ∧ cs_wt C S dp v ((cs_sl C S dp z v (lk, ch, cd) k).2.1 j) = true ∧ lk (z * 40 + (cs_sl C S dp z v (lk, ch, cd) k).2.1 j) - 1 = 0) ∧
    (∀ w, w < k → cs_wt C S dp v w = true → lk (z * 40 + w) - 1 = 0 → ∃ j, cd ≤ j ∧ j < (cs_sl C S dp z v (lk, ch, cd) k).2.2 ∧ (cs_sl C S dp z v (lk, ch, cd) k).2.1 j = w) ∧
    (∀ a b, cd ≤ a → a < (cs_sl C S dp z v (lk, ch, cd) k).2.2 → cd ≤ b → b < (cs_sl C S dp z v (lk, ch, cd) k).2.2 → (cs_sl C S dp z v (lk, ch, cd) k).2.1 a = (cs_sl C S dp z v (lk, ch, cd) k).2.1 b → a = b)
  | 0 => by
    refine ⟨fun q _ => rfl, fun w hw => absurd hw (by omega), fun w hw => absurd hw (by omega), Nat.le_refl _, fun j _ => rfl, fun j h1 h2 => ?_, fun w hw => absurd hw (by omega), fun a b h1 h2 => ?_⟩
    · exact absurd (show j < cd from h2) (by omega)
    · exact absurd (show a < cd from h2) (by omega)
  | k + 1 => by
    obtain ⟨ha, hb, hb', hc, hd, he, hf, hg⟩ := cs_sl_inv (C := C) (S := S) (dp := dp) (z := z) (v := v) (lk := lk) (ch := ch) (cd := cd) k
    cases hw : cs_wt C S dp v k with
    | false =>
      rw [cs_sl_f hw]
      refine ⟨fun q hq => ha q (by omega), fun w h1 h2 => ?_, fun w h1 h2 => ?_, hc, hd, fun j h1 h2 => ?_, fun w h1 h2 h3 => ?_, hg⟩
      · have : ¬ w = k := fun q => by rw [q, hw] at h2; exact absurd h2 (by decide)
        exact hb w (by omega) h2
      · rcases Nat.lt_or_ge w k with q | q
        · exact hb' w q h2
        · exact ha _ (by omega)
      · obtain ⟨g1, g2⟩ := he j h1 h2
        exact ⟨by omega, g2⟩
      · have : ¬ w = k := fun q => by rw [q, hw] at h2; exact absurd h2 (by decide)
        exact hf w (by omega) h2 h3
    | true =>
      rw [cs_sl_t hw]
      generalize hT : cs_sl C S dp z v (lk, ch, cd) k = T at ha hb hb' hc hd he hf hg
      have hk0 : T.1 (z * 40 + k) = lk (z * 40 + k) := ha _ (by omega)
      by_cases h0 : T.1 (z * 40 + k) - 1 = 0
      · rw [cs_low_t h0]
        refine ⟨fun q hq => ?_, fun w h1 h2 => ?_, fun w h1 h2 => ?_, ?_, fun j hj => ?_, fun j h1 h2 => ?_, fun w h1 h2 h3 => ?_, fun a b h1 h2 h3 h4 h5 => ?_⟩
        · show va_up T.1 (z * 40 + k) _ q = lk q
          rw [va_up_ne _ _ (by omega)]
          exact ha q (by omega)
        · show va_up T.1 (z * 40 + k) _ (z * 40 + w) = _
          rcases Nat.lt_or_ge w k with q | q
          · rw [va_up_ne _ _ (by omega)]
            exact hb w q h2
          · have : w = k := by omega
            subst this
            rw [va_up_self, hk0]
        · show va_up T.1 (z * 40 + k) _ (z * 40 + w) = _
          have : ¬ w = k := fun q => by rw [q, hw] at h2; exact absurd h2 (by decide)
          rw [va_up_ne _ _ (by omega)]
          exact hb' w (by omega) h2
        · show cd ≤ T.2.2 + 1
          omega
        · show va_up T.2.1 T.2.2 k j = ch j
          rw [va_up_ne _ _ (by omega)]
          exact hd j hj
        · have h2 : j < T.2.2 + 1 := h2
          show va_up T.2.1 T.2.2 k j < k + 1 ∧ cs_wt C S dp v (va_up T.2.1 T.2.2 k j) = true ∧ lk (z * 40 + va_up T.2.1 T.2.2 k j) - 1 = 0
          rcases Nat.lt_or_ge j T.2.2 with q | q
          · rw [va_up_ne _ _ (by omega)]
            obtain ⟨g1, g2⟩ := he j h1 q
            exact ⟨by omega, g2⟩
          · have : j = T.2.2 := by omega
            rw [this, va_up_self]
            exact ⟨by omega, hw, by rw [← hk0]; exact h0⟩
        · show ∃ j, cd ≤ j ∧ j < T.2.2 + 1 ∧ va_up T.2.1 T.2.2 k j = w
          rcases Nat.lt_or_ge w k with q | q
          · obtain ⟨j, g1, g2, g3⟩ := hf w q h2 h3
            exact ⟨j, g1, by omega, by rw [va_up_ne _ _ (by omega)]; exact g3⟩
          · exact ⟨T.2.2, hc, by omega, by rw [va_up_self]; omega⟩
        · have h2 : a < T.2.2 + 1 := h2
          have h4 : b < T.2.2 + 1 := h4
          have h5 : va_up T.2.1 T.2.2 k a = va_up T.2.1 T.2.2 k b := h5
          rcases Nat.lt_or_ge a T.2.2 with q | q
          · rcases Nat.lt_or_ge b T.2.2 with q2 | q2
            · rw [va_up_ne _ _ (by omega), va_up_ne _ _ (by omega)] at h5
              exact hg a b h1 q h3 q2 h5
            · have e2 : b = T.2.2 := by omega
              rw [va_up_ne _ _ (by omega), e2, va_up_self] at h5
              have := (he a h1 q).1
              omega
          · have e1 : a = T.2.2 := by omega
            rcases Nat.lt_or_ge b T.2.2 with q2 | q2
            · rw [e1, va_up_self, va_up_ne _ _ (by omega)] at h5
              have := (he b h3 q2).1
              omega
            · omega
      · rw [cs_low_f h0]
        refine ⟨fun q hq => ?_, fun w h1 h2 => ?_, fun w h1 h2 => ?_, hc, hd, fun j h1 h2 => ?_, fun w h1 h2 h3 => ?_, hg⟩
        · show va_up T.1 (z * 40 + k) _ q = lk q
          rw [va_up_ne _ _ (by omega)]
          exact ha q (by omega)
        · show va_up T.1 (z * 40 + k) _ (z * 40 + w) = _
          rcases Nat.lt_or_ge w k with q | q
          · rw [va_up_ne _ _ (by omega)]
            exact hb w q h2
          · have : w = k := by omega
            subst this
            rw [va_up_self, hk0]
        · show va_up T.1 (z * 40 + k) _ (z * 40 + w) = _
          have : ¬ w = k := fun q => by rw [q, hw] at h2; exact absurd h2 (by decide)
          rw [va_up_ne _ _ (by omega)]
          exact hb' w (by omega) h2
        · obtain ⟨g1, g2⟩ := he j h1 h2
          exact ⟨Nat.lt_succ_of_lt g1, g2⟩
        · rcases Nat.lt_or_ge w k with q | q
          · exact hf w q h2 h3
          · have : w = k := by omega
            subst this
            exact absurd (by rw [hk0]; exact h3) h0
/-! one centre -/
/-- what has come C, what is shown S, what each one lacks L, the winners B -/
def cs_C (n : Nat) (ky : Nat → Nat) (sp : Nat → Int32) (dp : Nat → Int64) (C S : Int64) (L : Nat → Int32) (B : Nat → Option Nat) : Prop :=
  (∀ v, cs_x C v = true → v < n) ∧
  (∀ v, cs_x S v = true ↔ (cs_x C v = true ∧ ∀ b, cs_x (dp v) b = true → cs_x S b = true)) ∧
  (∀ v, cs_x C v = true → cs_x S v = false → L v = nI (cs_n (fun b => cs_x (dp v) b && !cs_x S b) 40)) ∧
  (∀ k, k < 6 → cs_W n ky sp (cs_x S) k (B k))
/-- within 'arrive': i of the chain's cd versions are shown -/
def cs_A (n : Nat) (ky : Nat → Nat) (sp : Nat → Int32) (dp : Nat → Int64) (C S0 : Int64) (i : Nat) (S : Int64) (L : Nat → Int32) (B : Nat → Option Nat) (ch : Nat → Nat) (cd : Nat) : Prop :=
  i ≤ cd ∧ (∀ j, j < cd → cs_x C (ch j) = true) ∧ (∀ a b, a < cd → b < cd → ch a = ch b → a = b) ∧ (∀ j, j < i → cs_x S (ch j) = true) ∧
  (∀ j, i ≤ j → j < cd → cs_x S (ch j) = false ∧ ∀ b, cs_x (dp (ch j)) b = true → cs_x S b = true) ∧
  (∀ v, cs_x S v = true → cs_x C v = true ∧ ∀ b, cs_x (dp v) b = true → cs_x S b = true) ∧
  (∀ v, cs_x C v = true → cs_x S v = false → L v = nI (cs_n (fun b => cs_x (dp v) b && !cs_x S b) 40)) ∧
  (∀ v, cs_x C v = true → cs_x S v = false → (∀ b, cs_x (dp v) b = true → cs_x S b = true) → ∃ j, i ≤ j ∧ j < cd ∧ ch j = v) ∧
  cs_n (cs_x S) 40 = cs_n (cs_x S0) 40 + i ∧ (∀ k, k < 6 → cs_W n ky sp (cs_x S) k (B k))
theorem cs_A_le {n : Nat} {ky : Nat → Nat} {sp : Nat → Int32} {dp : Nat → Int64} {C S0 : Int64} {i : Nat} {S : Int64} {L : Nat → Int32} {B : Nat → Option Nat} {ch : Nat → Nat} {cd : Nat} (hC : ∀ v, cs_x C v = true → v < n) (h : cs_A n ky sp dp C S0 i S L B ch cd) : cd ≤ n :=
  cs_pig n cd ch (fun j hj => hC _ (h.2.1 j hj)) h.2.2.1
/-- a count when v is shown: those that depend on it lack one less -/
theorem cs_lack {D S : Int64} {v : Nat} (hv : v < 40) (hS : cs_x S v = false) (hD : cs_x D v = true) : cs_n (fun b => cs_x D b && !cs_x S b) 40 = cs_n (fun b => cs_x D b && !cs_x (S ||| cs_l v) b) 40 + 1 := by
  refine cs_n_up (v := v) ?_ (fun j => ?_) 40 hv
  · show (cs_x D v && !cs_x (S ||| cs_l v) v) = false
    rw [cs_x_add_v (by omega)]
    simp
  · show (cs_x D j && !cs_x S j) = ((cs_x D j && !cs_x (S ||| cs_l v) j) || decide (j = v))
    by_cases q : j = v
    · subst q
      rw [hS, hD]
      simp
    · rw [cs_x_add_n (by omega) q]
      simp [q]
theorem cs_lack_n {D S : Int64} {v : Nat} (hv : v < 64) (hD : cs_x D v = false) : cs_n (fun b => cs_x D b && !cs_x (S ||| cs_l v) b) 40 = cs_n (fun b => cs_x D b && !cs_x S b) 40 := by
  refine cs_n_congr 40 (fun j hj => ?_)
  show (cs_x D j && !cs_x (S ||| cs_l v) j) = (cs_x D j && !cs_x S j)
  by_cases q : j = v
  · subst q
    rw [hD]
    rfl
  · rw [cs_x_add_n hv q]
theorem cs_lack_0 {D S : Int64} {n : Nat} (hn : n ≤ 40) (hD : ∀ b, cs_x D b = true → b < n) : cs_n (fun b => cs_x D b && !cs_x S b) 40 = 0 ↔ ∀ b, cs_x D b = true → cs_x S b = true := by
  constructor
  · intro h b hb
    have := cs_n_0 40 h b (by have := hD b hb; omega)
    have this : (cs_x D b && !cs_x S b) = false := this
    rw [hb] at this
    simpa using this
  · intro h
    refine cs_n_z 40 (fun b _ => ?_)
    show (cs_x D b && !cs_x S b) = false
    cases e : cs_x D b with
    | false => rfl
    | true => rw [h b e]; rfl
theorem cs_nI0 {q : Nat} (h : q ≤ 40) : nI q = 0 ↔ q = 0 := by
  rw [← nI_0]
  exact nI_eq (by omega) (by decide)
theorem cs_wt_t {C S : Int64} {dp : Nat → Int64} {v w : Nat} : cs_wt C S dp v w = true ↔ (cs_x C w = true ∧ cs_x S w = false ∧ cs_x (dp w) v = true) := by
  unfold cs_wt
  cases cs_x C w <;> cases cs_x S w <;> cases cs_x (dp w) v <;> simp
end
section
/-! PLAIN LAW: a step of 'arrive', its start and its end -/
section CSA
variable {n : Nat} {ky : Nat → Nat} {sp : Nat → Int32} {dp : Nat → Int64} {C S0 : Int64} {i : Nat} {S : Int64} {L : Nat → Int32} {B : Nat → Option Nat} {ch : Nat → Nat} {cd : Nat} {lk : Nat → Int32} {bs : Nat → Option Nat} {z : Nat}
theorem cs_A_ne (hn : n ≤ 40) (hC : ∀ v, cs_x C v = true → v < n) (h : cs_A n ky sp dp C S0 i S L B ch cd) (hi : i < cd) {a w : Nat} (ha : a < cd) (hw : cs_wt C (S ||| cs_l (ch i)) dp (ch i) w = true) : ¬ ch a = w := by
  obtain ⟨h1, h2, h3, h4, h5, -⟩ := h
  obtain ⟨w1, w2, w3⟩ := cs_wt_t.mp hw
  have hv : ch i < 64 := by have := hC _ (h2 i hi); omega
  intro e
  rcases Nat.lt_trichotomy a i with q | q | q
  · have := cs_x_add_t hv (h4 a q)
    rw [e, w2] at this
    exact absurd this (by decide)
  · rw [← e, q, cs_x_add_v hv] at w2
    exact absurd w2 (by decide)
  · have := (h5 a (by omega) ha).2 (ch i) (by rw [e]; exact w3)
    rw [(h5 i (Nat.le_refl i) hi).1] at this
    exact absurd this (by decide)
theorem cs_A_inj (hn : n ≤ 40) (hC : ∀ v, cs_x C v = true → v < n) (h : cs_A n ky sp dp C S0 i S L B ch cd) (hi : i < cd) (k : Nat) : ∀ a b, a < (cs_sl C (S ||| cs_l (ch i)) dp z (ch i) (lk, ch, cd) k).2.2 → b < (cs_sl C (S ||| cs_l (ch i)) dp z (ch i) (lk, ch, cd) k).2.2 → (cs_sl C (S ||| cs_l (ch i)) dp z (ch i) (lk, ch, cd) k).2.1 a = (cs_sl C (S ||| cs_l (ch i)) dp z (ch i) (lk, ch, cd) k).2.1 b → a = b := by
  obtain ⟨-, -, -, -, gd, ge, -, gg⟩ := cs_sl_inv (C := C) (S := S ||| cs_l (ch i)) (dp := dp) (z := z) (v := ch i) (lk := lk) (ch := ch) (cd := cd) k
  intro a b ha hb e
  rcases Nat.lt_or_ge a cd with q | q
  · rcases Nat.lt_or_ge b cd with q2 | q2
    · rw [gd a q, gd b q2] at e
      exact h.2.2.1 a b q q2 e
    · rw [gd a q] at e
      exact absurd e (cs_A_ne hn hC h hi q (ge b q2 hb).2.1)
  · rcases Nat.lt_or_ge b cd with q2 | q2
    · rw [gd b q2] at e
      exact absurd e.symm (cs_A_ne hn hC h hi q2 (ge a q ha).2.1)
    · exact gg a b q ha q2 hb e
theorem cs_A_in (hC : ∀ v, cs_x C v = true → v < n) (h : cs_A n ky sp dp C S0 i S L B ch cd) (k : Nat) : ∀ j, j < (cs_sl C (S ||| cs_l (ch i)) dp z (ch i) (lk, ch, cd) k).2.2 → cs_x C ((cs_sl C (S ||| cs_l (ch i)) dp z (ch i) (lk, ch, cd) k).2.1 j) = true := by
  obtain ⟨-, -, -, -, gd, ge, -, -⟩ := cs_sl_inv (C := C) (S := S ||| cs_l (ch i)) (dp := dp) (z := z) (v := ch i) (lk := lk) (ch := ch) (cd := cd) k
  intro j hj
  rcases Nat.lt_or_ge j cd with q | q
  · rw [gd j q]
    exact h.2.1 j q
  · exact (cs_wt_t.mp (ge j q hj).2.1).1
/-- the chain never runs over -/
theorem cs_A_safe (hn : n ≤ 40) (hC : ∀ v, cs_x C v = true → v < n) (h : cs_A n ky sp dp C S0 i S L B ch cd) (hi : i < cd) (k : Nat) (hw : cs_wt C (S ||| cs_l (ch i)) dp (ch i) k = true) : (cs_sl C (S ||| cs_l (ch i)) dp z (ch i) (lk, ch, cd) k).2.2 < 40 := by
  have hin := cs_A_in (lk := lk) (z := z) hC h k
  have hij := cs_A_inj (lk := lk) (z := z) hn hC h hi k
  obtain ⟨-, -, -, -, gd, ge, -, -⟩ := cs_sl_inv (C := C) (S := S ||| cs_l (ch i)) (dp := dp) (z := z) (v := ch i) (lk := lk) (ch := ch) (cd := cd) k
  have hk : k < n := hC _ (cs_wt_t.mp hw).1
  generalize cs_sl C (S ||| cs_l (ch i)) dp z (ch i) (lk, ch, cd) k = T at hin hij gd ge
  have hne : ∀ j, j < T.2.2 → ¬ T.2.1 j = k := by
    intro j hj
    rcases Nat.lt_or_ge j cd with q | q
    · rw [gd j q]
      exact cs_A_ne hn hC h hi q hw
    · have := (ge j q hj).1
      omega
  have key : T.2.2 + 1 ≤ n := by
    refine cs_pig n (T.2.2 + 1) (fun j => if j = T.2.2 then k else T.2.1 j) (fun j hj => ?_) (fun a b ha hb e => ?_)
    · show (if j = T.2.2 then k else T.2.1 j) < n
      by_cases q : j = T.2.2
      · rw [if_pos q]; exact hk
      · rw [if_neg q]; exact hC _ (hin j (by omega))
    · have e : (if a = T.2.2 then k else T.2.1 a) = (if b = T.2.2 then k else T.2.1 b) := e
      by_cases q : a = T.2.2
      · by_cases q2 : b = T.2.2
        · omega
        · rw [if_pos q, if_neg q2] at e
          exact absurd e.symm (hne b (by omega))
      · by_cases q2 : b = T.2.2
        · rw [if_neg q, if_pos q2] at e
          exact absurd e (hne a (by omega))
        · rw [if_neg q, if_neg q2] at e
          exact hij a b (by omega) (by omega) e
  omega
theorem cs_bu_at {q v : Nat} : cs_bu sp q v bs q = if cs_beat sp v (bs q) then some v else bs q := by
  cases e : cs_beat sp v (bs q) with
  | true => rw [cs_bu_t e, va_up_self, if_pos rfl]
  | false => rw [cs_bu_f e, if_neg (by decide)]
theorem cs_bu_ne {q v r : Nat} (h : ¬ r = q) : cs_bu sp q v bs r = bs r := by
  cases e : cs_beat sp v (bs q) with
  | true => rw [cs_bu_t e, va_up_ne _ _ h]
  | false => rw [cs_bu_f e]
theorem cs_A_step (hn : n ≤ 40) (hC : ∀ v, cs_x C v = true → v < n) (hdp : ∀ v b, v < n → cs_x (dp v) b = true → b < v) (hky : ∀ v, ky v < 6) (h : cs_A n ky sp dp C S0 i S (fun w => lk (z * 40 + w)) (fun k => bs (z * 6 + k)) ch cd) (hi : i < cd) :
    cs_A n ky sp dp C S0 (i + 1) (S ||| cs_l (ch i)) (fun w => (cs_sl C (S ||| cs_l (ch i)) dp z (ch i) (lk, ch, cd) n).1 (z * 40 + w)) (fun k => cs_bu sp (z * 6 + ky (ch i)) (ch i) bs (z * 6 + k)) (cs_sl C (S ||| cs_l (ch i)) dp z (ch i) (lk, ch, cd) n).2.1 (cs_sl C (S ||| cs_l (ch i)) dp z (ch i) (lk, ch, cd) n).2.2 := by
  have hin := cs_A_in (lk := lk) (z := z) hC h n
  have hij := cs_A_inj (lk := lk) (z := z) hn hC h hi n
  obtain ⟨ga, gb, gb', gc, gd, ge, gf, -⟩ := cs_sl_inv (C := C) (S := S ||| cs_l (ch i)) (dp := dp) (z := z) (v := ch i) (lk := lk) (ch := ch) (cd := cd) n
  obtain ⟨h1, h2, h3, h4, h5, h6, h7, h8, h9, h10⟩ := h
  have hvn : ch i < n := hC _ (h2 i hi)
  have hv64 : ch i < 64 := by omega
  obtain ⟨hSv, hdv⟩ := h5 i (Nat.le_refl i) hi
  -- one that waits lacks one less
  have hlack : ∀ w, cs_wt C (S ||| cs_l (ch i)) dp (ch i) w = true → lk (z * 40 + w) - 1 = nI (cs_n (fun b => cs_x (dp w) b && !cs_x (S ||| cs_l (ch i)) b) 40) := by
    intro w hw
    obtain ⟨w1, w2, w3⟩ := cs_wt_t.mp hw
    have w4 : cs_x S w = false := cs_tf (fun q => by rw [cs_x_add_t hv64 q] at w2; exact absurd w2 (by decide))
    have e : lk (z * 40 + w) = nI (cs_n (fun b => cs_x (dp w) b && !cs_x S b) 40) := h7 w w1 w4
    rw [e, cs_lack (by omega) hSv w3, nI_pred]
  have hz0 : ∀ w, cs_wt C (S ||| cs_l (ch i)) dp (ch i) w = true → (lk (z * 40 + w) - 1 = 0 ↔ ∀ b, cs_x (dp w) b = true → cs_x (S ||| cs_l (ch i)) b = true) := by
    intro w hw
    have hwn : w < n := hC _ (cs_wt_t.mp hw).1
    rw [hlack w hw, cs_nI0 (cs_n_le _ 40)]
    exact cs_lack_0 hn (fun b hb => by have := hdp w b hwn hb; omega)
  generalize hT : cs_sl C (S ||| cs_l (ch i)) dp z (ch i) (lk, ch, cd) n = T at hin hij ga gb gb' gc gd ge gf ⊢
  refine ⟨by omega, hin, hij, fun j hj => ?_, fun j hj1 hj2 => ?_, fun u hu => ?_, fun w hw1 hw2 => ?_, fun w hw1 hw2 hw3 => ?_, ?_, fun k hk => ?_⟩
  · rw [gd j (by omega)]
    rcases Nat.lt_or_ge j i with q | q
    · exact cs_x_add_t hv64 (h4 j q)
    · have : j = i := by omega
      rw [this]
      exact cs_x_add_v hv64
  · rcases Nat.lt_or_ge j cd with q | q
    · rw [gd j q]
      obtain ⟨a1, a2⟩ := h5 j (by omega) q
      refine ⟨?_, fun b hb => cs_x_add_t hv64 (a2 b hb)⟩
      rw [cs_x_add_n hv64 (fun e => by have := h3 j i q hi e; omega)]
      exact a1
    · obtain ⟨-, a2, a3⟩ := ge j q hj2
      exact ⟨(cs_wt_t.mp a2).2.1, (hz0 _ a2).mp a3⟩
  · by_cases q : u = ch i
    · rw [q]
      exact ⟨h2 i hi, fun b hb => cs_x_add_t hv64 (hdv b hb)⟩
    · rw [cs_x_add_n hv64 q] at hu
      obtain ⟨a1, a2⟩ := h6 u hu
      exact ⟨a1, fun b hb => cs_x_add_t hv64 (a2 b hb)⟩
  · show T.1 (z * 40 + w) = _
    cases hd : cs_x (dp w) (ch i) with
    | true =>
      have hw : cs_wt C (S ||| cs_l (ch i)) dp (ch i) w = true := cs_wt_t.mpr ⟨hw1, hw2, hd⟩
      rw [gb w (hC w hw1) hw]
      exact hlack w hw
    | false =>
      have hw : cs_wt C (S ||| cs_l (ch i)) dp (ch i) w = false := cs_tf (fun q => by rw [(cs_wt_t.mp q).2.2] at hd; exact absurd hd (by decide))
      have w4 : cs_x S w = false := cs_tf (fun q => by rw [cs_x_add_t hv64 q] at hw2; exact absurd hw2 (by decide))
      rw [gb' w (hC w hw1) hw, cs_lack_n hv64 hd]
      exact h7 w hw1 w4
  · cases hd : cs_x (dp w) (ch i) with
    | true =>
      have hw : cs_wt C (S ||| cs_l (ch i)) dp (ch i) w = true := cs_wt_t.mpr ⟨hw1, hw2, hd⟩
      obtain ⟨j, j1, j2, j3⟩ := gf w (hC w hw1) hw ((hz0 w hw).mpr hw3)
      exact ⟨j, by omega, j2, j3⟩
    | false =>
      have w4 : cs_x S w = false := cs_tf (fun q => by rw [cs_x_add_t hv64 q] at hw2; exact absurd hw2 (by decide))
      obtain ⟨j, j1, j2, j3⟩ := h8 w hw1 w4 (fun b hb => by
        have a := hw3 b hb
        have hbv : ¬ b = ch i := fun q => by rw [q, hd] at hb; exact absurd hb (by decide)
        rw [cs_x_add_n hv64 hbv] at a
        exact a)
      have hji : ¬ j = i := fun q => by
        rw [← j3, q, cs_x_add_v hv64] at hw2
        exact absurd hw2 (by decide)
      exact ⟨j, by omega, by omega, by rw [gd j j2]; exact j3⟩
  · rw [cs_n_up (f := cs_x S) (v := ch i) hSv (fun j => cs_x_add hv64 j) 40 (by omega), h9]
    omega
  · by_cases q : ky (ch i) = k
    · subst q
      show cs_W n ky sp _ _ (cs_bu sp (z * 6 + ky (ch i)) (ch i) bs (z * 6 + ky (ch i)))
      rw [cs_bu_at]
      exact cs_W_add (h10 (ky (ch i)) hk) (fun b => cs_x_add hv64 b) hvn rfl
    · show cs_W n ky sp _ _ (cs_bu sp (z * 6 + ky (ch i)) (ch i) bs (z * 6 + k))
      rw [cs_bu_ne (by omega)]
      exact cs_W_off (h10 k hk) (fun b => cs_x_add hv64 b) q
/-- the start: v has come, and lacks nothing -/
theorem cs_A_init {C0 : Int64} {L0 : Nat → Int32} {v : Nat} (hn : n ≤ 40) (hdp : ∀ v b, v < n → cs_x (dp v) b = true → b < v) (h : cs_C n ky sp dp C0 S L0 B) (hv : v < n) (hc : cs_x C0 v = false) (h0 : cs_n (fun b => cs_x (dp v) b && !cs_x S b) 40 = 0)
    (hL1 : L v = nI (cs_n (fun b => cs_x (dp v) b && !cs_x S b) 40)) (hL2 : ∀ w, w < n → ¬ w = v → L w = L0 w) : cs_A n ky sp dp (C0 ||| cs_l v) S 0 S L B (va_up ch 0 v) 1 := by
  have hv64 : v < 64 := by omega
  obtain ⟨h1, h2, h3, h4⟩ := h
  have hSv : cs_x S v = false := cs_tf (fun q => by rw [((h2 v).mp q).1] at hc; exact absurd hc (by decide))
  have hd : ∀ b, cs_x (dp v) b = true → cs_x S b = true := (cs_lack_0 hn (fun b hb => by have := hdp v b hv hb; omega)).mp h0
  have hu : ∀ j, j < 1 → va_up ch 0 v j = v := fun j hj => by
    have : j = 0 := by omega
    rw [this, va_up_self]
  refine ⟨by omega, fun j hj => ?_, fun a b ha hb _ => by omega, fun j hj => absurd hj (by omega), fun j _ hj => ?_, fun u hu => ?_, fun w hw1 hw2 => ?_, fun w hw1 hw2 hw3 => ?_, rfl, h4⟩
  · rw [hu j hj]
    exact cs_x_add_v hv64
  · rw [hu j hj]
    exact ⟨hSv, hd⟩
  · obtain ⟨a1, a2⟩ := (h2 u).mp hu
    exact ⟨cs_x_add_t hv64 a1, a2⟩
  · by_cases q : w = v
    · rw [q]
      exact hL1
    · rw [cs_x_add_n hv64 q] at hw1
      rw [hL2 w (h1 w hw1) q]
      exact h3 w hw1 hw2
  · by_cases q : w = v
    · exact ⟨0, Nat.le_refl 0, by omega, by rw [va_up_self, q]⟩
    · rw [cs_x_add_n hv64 q] at hw1
      have := (h2 w).mpr ⟨hw1, hw3⟩
      rw [hw2] at this
      exact absurd this (by decide)
/-- v has come, and lacks something -/
theorem cs_C_wait {C0 : Int64} {L0 : Nat → Int32} {v : Nat} (hn : n ≤ 40) (hdp : ∀ v b, v < n → cs_x (dp v) b = true → b < v) (h : cs_C n ky sp dp C0 S L0 B) (hv : v < n) (hc : cs_x C0 v = false) (h0 : ¬ cs_n (fun b => cs_x (dp v) b && !cs_x S b) 40 = 0)
    (hL1 : L v = nI (cs_n (fun b => cs_x (dp v) b && !cs_x S b) 40)) (hL2 : ∀ w, w < n → ¬ w = v → L w = L0 w) : cs_C n ky sp dp (C0 ||| cs_l v) S L B := by
  have hv64 : v < 64 := by omega
  obtain ⟨h1, h2, h3, h4⟩ := h
  have hSv : cs_x S v = false := cs_tf (fun q => by rw [((h2 v).mp q).1] at hc; exact absurd hc (by decide))
  refine ⟨fun w hw => ?_, fun w => ?_, fun w hw1 hw2 => ?_, h4⟩
  · by_cases q : w = v
    · rw [q]; exact hv
    · rw [cs_x_add_n hv64 q] at hw
      exact h1 w hw
  · by_cases q : w = v
    · rw [q, hSv]
      refine ⟨fun e => absurd e (by decide), fun e => ?_⟩
      exact absurd ((cs_lack_0 hn (fun b hb => by have := hdp v b hv hb; omega)).mpr e.2) h0
    · rw [cs_x_add_n hv64 q]
      exact h2 w
  · by_cases q : w = v
    · rw [q]
      exact hL1
    · rw [cs_x_add_n hv64 q] at hw1
      rw [hL2 w (h1 w hw1) q]
      exact h3 w hw1 hw2
/-- the end: all of the chain is shown -/
theorem cs_A_end (hC : ∀ v, cs_x C v = true → v < n) (h : cs_A n ky sp dp C S0 i S L B ch cd) (hi : cd ≤ i) : cs_C n ky sp dp C S L B := by
  obtain ⟨h1, h2, h3, h4, h5, h6, h7, h8, h9, h10⟩ := h
  refine ⟨hC, fun w => ⟨h6 w, fun e => ?_⟩, h7, h10⟩
  cases q : cs_x S w with
  | true => rfl
  | false =>
    obtain ⟨j, j1, j2, -⟩ := h8 w e.1 q e.2
    omega
theorem cs_C_congr {L' : Nat → Int32} {B' : Nat → Option Nat} (h : cs_C n ky sp dp C S L B) (hL : ∀ w, w < n → L' w = L w) (hB : ∀ k, k < 6 → B' k = B k) : cs_C n ky sp dp C S L' B' := by
  obtain ⟨h1, h2, h3, h4⟩ := h
  exact ⟨h1, h2, fun w hw1 hw2 => by rw [hL w (h1 w hw1)]; exact h3 w hw1 hw2, fun k hk => by rw [hB k hk]; exact h4 k hk⟩
end CSA
/-! all three centres -/
def cs_G (n : Nat) (ky : Nat → Nat) (sp : Nat → Int32) (dp cm sh : Nat → Int64) (lk : Nat → Int32) (bs : Nat → Option Nat) : Prop :=
  n ≤ 40 ∧ (∀ v, ky v < 6) ∧ (∀ v b, v < n → cs_x (dp v) b = true → b < v) ∧ ∀ z, z < 3 → cs_C n ky sp dp (cm z) (sh z) (fun w => lk (z * 40 + w)) (fun k => bs (z * 6 + k))
theorem cs_G_put {n : Nat} {ky : Nat → Nat} {sp : Nat → Int32} {dp cm sh : Nat → Int64} {lk lk1 : Nat → Int32} {bs bs1 : Nat → Option Nat} {z : Nat} {C S : Int64} (h : cs_G n ky sp dp cm sh lk bs) (hz : z < 3) (hl : ∀ q, ¬ (z * 40 ≤ q ∧ q < z * 40 + 40) → lk1 q = lk q) (hb : ∀ q, ¬ (z * 6 ≤ q ∧ q < z * 6 + 6) → bs1 q = bs q) (hc : cs_C n ky sp dp C S (fun w => lk1 (z * 40 + w)) (fun k => bs1 (z * 6 + k))) : cs_G n ky sp dp (va_up cm z C) (va_up sh z S) lk1 bs1 := by
  obtain ⟨h1, h2, h3, h4⟩ := h
  refine ⟨h1, h2, h3, fun y hy => ?_⟩
  by_cases q : y = z
  · subst q
    rw [va_up_self, va_up_self]
    exact hc
  · rw [va_up_ne _ _ q, va_up_ne _ _ q]
    exact cs_C_congr (h4 y hy) (fun w hw => hl _ (by omega)) (fun k hk => hb _ (by omega))
theorem cs_bits_not {D S : Int64} : cs_n (cs_x (D &&& (S ^^^ (-1)))) 40 = cs_n (fun b => cs_x D b && !cs_x S b) 40 := cs_n_congr 40 (fun j hj => by rw [cs_x_and, cs_x_not _ (by omega)])
theorem cs_up_same {α : Type} (f : Nat → α) (k : Nat) : va_up f k (f k) = f := by
  funext j
  by_cases h : j = k
  · rw [h, va_up_self]
  · rw [va_up_ne _ _ h]
end
section
set_option maxHeartbeats 4000000 in
/-- 'arrive' in plain words: v has come to z; the versions shown at z are again those that have come with all that they depend on; k more than before -/
theorem cs_arrive_G (l : Launch) (D : va_G) {ad : Nat → Nat} {cI cJ : ClassId} {n : Nat} {ky : Nat → Nat} {vl : Nat → Int32} {sp : Nat → Int32} {dp : Nat → Int64} {cm : Nat → Int64} {sh : Nat → Int64} {lk : Nat → Int32} {bs : Nat → Option Nat} {pl : Nat → Nat} {ss : Nat → Int64} {st : Nat → Int32} {ch : Nat → Nat} {cd : Nat} (hG : cs_G n ky sp dp cm sh lk bs) (z v : Nat) (hz : z < 3) (hv : v < n) (hc : cs_x (cm z) v = false) : cs_MW l yX0_arrive (ws_ yX0_arrive cX0_arrive 4 (some .int)) ({ frames := 2, cells := 0, slots := 0, locals := 48 }) D vwCl (cs_wX ad cI cJ n ky vl sp dp cm sh lk bs pl ss st ch cd) (cs_tX cI cJ) [.ref (ad 0), .int (nI z), .int (nI v)] (fun r w' => ∃ (k : Nat) (S : Int64) (lk1 : Nat → Int32) (bs1 : Nat → Option Nat) (ch1 : Nat → Nat) (cd1 : Nat), r = nI k ∧ k ≤ 40 ∧ cs_G n ky sp dp (va_up cm z (cm z ||| cs_l v)) (va_up sh z S) lk1 bs1 ∧ cs_n (cs_x S) 40 = cs_n (cs_x (sh z)) 40 + k ∧ w' = cs_wX ad cI cJ n ky vl sp dp ((va_up cm z (cm z ||| cs_l v))) ((va_up sh z S)) lk1 bs1 pl ss st ch1 cd1) := by
  obtain ⟨hn, hky, hdp, hCs⟩ := id hG
  have hCz := hCs z hz
  have hv40 : v < 40 := by omega
  have hv64 : v < 64 := by omega
  have eC : (va_up cm z (cm z ||| cs_l v)) z = cm z ||| cs_l v := va_up_self _ _ _
  have hC1 : ∀ u, cs_x (cm z ||| cs_l v) u = true → u < n := by
    intro u hu
    by_cases q : u = v
    · rw [q]; exact hv
    · rw [cs_x_add_n hv64 q] at hu
      exact hCz.1 u hu
  have hL1 : (va_up lk (z * 40 + v) (nI (cs_n (cs_x (dp v &&& (sh z ^^^ (-1)))) 40))) (z * 40 + v) = nI (cs_n (fun b => cs_x (dp v) b && !cs_x (sh z) b) 40) := by rw [va_up_self, cs_bits_not]
  have hL2 : ∀ w, w < n → ¬ w = v → (va_up lk (z * 40 + v) (nI (cs_n (cs_x (dp v &&& (sh z ^^^ (-1)))) 40))) (z * 40 + w) = lk (z * 40 + w) := fun w _ hw => va_up_ne _ _ (by omega)
  refine cs_arrive l D z v hz hv40 hn _ (fun i sh' lk' bs' ch' cd' => (∃ S, sh' = va_up sh z S) ∧ (∀ q, ¬ (z * 40 ≤ q ∧ q < z * 40 + 40) → lk' q = lk q) ∧ (∀ q, ¬ (z * 6 ≤ q ∧ q < z * 6 + 6) → bs' q = bs q) ∧ cs_A n ky sp dp (cm z ||| cs_l v) (sh z) i (sh' z) (fun w => lk' (z * 40 + w)) (fun k => bs' (z * 6 + k)) ch' cd') ?_ ?_ ?_ ?_ ?_
  · intro i sh' lk' bs' ch' cd' hI
    have := cs_A_le hC1 hI.2.2.2
    have := hI.2.2.2.1
    omega
  · intro i sh' lk' bs' ch' cd' hI hi
    obtain ⟨⟨S, hS⟩, h1, h2, h3⟩ := hI
    rw [eC, va_up_self]
    have hin : ch' i < n := hC1 _ (h3.2.1 i hi)
    have hk6 := hky (ch' i)
    refine ⟨by omega, hk6, fun j hj => ?_, fun k hk hw => cs_A_safe hn hC1 h3 hi k hw, ⟨_, by rw [hS, bx_uu]⟩, fun q hq => ?_, fun q hq => ?_, ?_⟩
    · have := h3.2.2.2.2.2.2.2.2.2 (ky (ch' i)) hk6
      have this : cs_W n ky sp _ _ (bs' (z * 6 + ky (ch' i))) := this
      rw [hj] at this
      have := this.1
      omega
    · rw [(cs_sl_inv n).1 q (by omega)]
      exact h1 q hq
    · rw [cs_bu_ne (by omega)]
      exact h2 q hq
    · exact cs_A_step hn hC1 hdp hky h3 hi
  · intro h0
    rw [cs_bits_not] at h0
    refine ⟨0, sh z, _, bs, ch, cd, rfl, by omega, ?_, rfl, by rw [cs_up_same]⟩
    exact cs_G_put hG hz (fun q hq => va_up_ne _ _ (by omega)) (fun q _ => rfl) (cs_C_wait hn hdp hCz hv hc h0 hL1 hL2)
  · intro h0
    rw [cs_bits_not] at h0
    refine ⟨⟨sh z, (cs_up_same sh z).symm⟩, fun q hq => va_up_ne _ _ (by omega), fun q _ => rfl, ?_⟩
    exact cs_A_init hn hdp hCz hv hc h0 hL1 hL2
  · intro i sh' lk' bs' ch' cd' hI hi
    obtain ⟨⟨S, hS⟩, h1, h2, h3⟩ := hI
    subst hS
    have hle := cs_A_le hC1 h3
    have hi1 := h3.1
    have h9 := h3.2.2.2.2.2.2.2.2.1
    have hEnd := cs_A_end hC1 h3 hi
    rw [va_up_self] at hEnd h9
    exact ⟨i, S, lk', bs', ch', cd', rfl, by omega, cs_G_put hG hz h1 h2 hEnd, h9, rfl⟩
end
section
/-! BOTH SIDES: the store and the model hold the same -/
theorem cs_MR.toW {l : Launch} {y : MethodName} {wy : List Cond} {rm : Room} {D : va_G} {cl : List vw_C} {w : va_W} {tys : List (ClassId × FieldType)} {As : List Value} {r : Int32} (h : cs_MR l y wy rm D cl w tys As r) : cs_MW l y wy rm D cl w tys As (fun r' w' => r' = r ∧ w' = w) := by
  intro sz p e ha hc hk s m args below hf hsp hP hx
  obtain ⟨p0, p1, p2, p3, p4⟩ := hP
  obtain ⟨k, o, h1, h2, h3, ⟨⟨r', u, q1, q2, q3⟩, hF⟩, L, hL1, hL2⟩ := h sz p e ha hc hk s m args below hf hsp ⟨p0, p1, p2, p3⟩ hx
  have hw : ∀ q, va_A [] sz q → va_A w sz q := fun q hq => Or.inr (cs_A0 hq)
  refine ⟨k, o, h1, h2, h3, ⟨⟨r', w, q1, ⟨q2, rfl⟩, p2.kept (fun k q hq => hF.2 q.1 (p2 k q hq).lt (fun hA => ?_)), p4.self⟩, hF.1, fun q g1 g2 => hF.2 q g1 (fun g3 => g2 (hw q g3))⟩, L, hL1, fun q hq => hw _ (hL2 q hq)⟩
  have a := cs_A0 hA
  have b := (p2 k q hq).lt
  omega
/-- what holds between a store and a model of the same versions, keys, values, stamps and places -/
def cs_J (n : Nat) (ky : Nat → Nat) (sp : Nat → Int32) (dp cm sh : Nat → Int64) (lk : Nat → Int32) (bs : Nat → Option Nat) (pl : Nat → Nat) (ss : Nat → Int64) (st : Nat → Int32) (nd cmM hs : Nat → Bool) : Prop :=
  cs_G n ky sp dp cm sh lk bs ∧ (∀ u, u < 3 → pl u < 3) ∧ (∀ u v, u < 3 → cs_x (ss u) v = true → v < n) ∧ (∀ u, u < 3 → cs_X n sp (cs_x (ss u)) (st u)) ∧
  (∀ v b, v < n → b < 40 → nd (v * 40 + b) = cs_x (dp v) b) ∧ (∀ v b, n ≤ v → v < 40 → b < 40 → nd (v * 40 + b) = false) ∧
  (∀ z v, z < 3 → v < 40 → cmM (z * 40 + v) = cs_x (cm z) v) ∧ (∀ u v, u < 3 → v < 40 → hs (u * 40 + v) = cs_x (ss u) v)
def cs_JJ (ad : Nat → Nat) (cI cJ : ClassId) (ad2 : Nat → Nat) (cI2 cZ : ClassId) (w1 w2 : va_W) : Prop :=
  ∃ (n : Nat) (ky : Nat → Nat) (vl sp : Nat → Int32) (dp cm sh : Nat → Int64) (lk : Nat → Int32) (bs : Nat → Option Nat) (pl : Nat → Nat) (ss : Nat → Int64) (st : Nat → Int32) (ch : Nat → Nat) (cd : Nat) (nd cmM hs shM : Nat → Bool),
    w1 = cs_wX ad cI cJ n ky vl sp dp cm sh lk bs pl ss st ch cd ∧ w2 = cs_wM ad2 cI2 cZ n ky vl sp nd cmM hs pl shM ∧ cs_J n ky sp dp cm sh lk bs pl ss st nd cmM hs
/-- a call of the store and the same call of the model: they answer alike, and go on holding the same -/
def cs_Pair (l : Launch) (D : va_G) (ad : Nat → Nat) (cI cJ : ClassId) (ad2 : Nat → Nat) (cI2 cZ : ClassId) (yx : MethodName) (wx : List Cond) (rx : Room) (ym : MethodName) (wm : List Cond) (rm : Room) (As : List Value) (w1 w2 : va_W) : Prop :=
  ∃ postX : Int32 → va_W → Prop, cs_MW l yx wx rx D vwCl w1 (cs_tX cI cJ) (.ref (ad 0) :: As) postX ∧ ∀ r w1', postX r w1' → ∃ postM : Int32 → va_W → Prop, cs_MW l ym wm rm D vwCl w2 (cs_tM cI2 cZ) (.ref (ad2 0) :: As) postM ∧ ∀ r' w2', postM r' w2' → r = r' ∧ cs_JJ ad cI cJ ad2 cI2 cZ w1' w2'
section CSJ
variable {l : Launch} {D : va_G} {ad : Nat → Nat} {cI cJ : ClassId} {ad2 : Nat → Nat} {cI2 cZ : ClassId} {yx : MethodName} {wx : List Cond} {rx : Room} {ym : MethodName} {wm : List Cond} {rm : Room} {As : List Value} {r : Int32}
variable {n : Nat} {ky : Nat → Nat} {vl sp : Nat → Int32} {dp cm sh : Nat → Int64} {lk : Nat → Int32} {bs : Nat → Option Nat} {pl : Nat → Nat} {ss : Nat → Int64} {st : Nat → Int32} {ch : Nat → Nat} {cd : Nat} {nd cmM hs shM : Nat → Bool}
theorem cs_pairRR (hJ : cs_J n ky sp dp cm sh lk bs pl ss st nd cmM hs) (hX : cs_MR l yx wx rx D vwCl (cs_wX ad cI cJ n ky vl sp dp cm sh lk bs pl ss st ch cd) (cs_tX cI cJ) (.ref (ad 0) :: As) r) (hM : cs_MR l ym wm rm D vwCl (cs_wM ad2 cI2 cZ n ky vl sp nd cmM hs pl shM) (cs_tM cI2 cZ) (.ref (ad2 0) :: As) r) : cs_Pair l D ad cI cJ ad2 cI2 cZ yx wx rx ym wm rm As (cs_wX ad cI cJ n ky vl sp dp cm sh lk bs pl ss st ch cd) (cs_wM ad2 cI2 cZ n ky vl sp nd cmM hs pl shM) := by
  refine ⟨_, hX.toW, fun r1 w1 h1 => ⟨_, hM.toW, fun r2 w2 h2 => ?_⟩⟩
  obtain ⟨rfl, rfl⟩ := h1
  obtain ⟨rfl, rfl⟩ := h2
  exact ⟨rfl, n, ky, vl, sp, dp, cm, sh, lk, bs, pl, ss, st, ch, cd, nd, cmM, hs, shM, rfl, rfl, hJ⟩
theorem cs_pairRW (hJ : cs_J n ky sp dp cm sh lk bs pl ss st nd cmM hs) (hX : cs_MR l yx wx rx D vwCl (cs_wX ad cI cJ n ky vl sp dp cm sh lk bs pl ss st ch cd) (cs_tX cI cJ) (.ref (ad 0) :: As) r) (hM : cs_MW l ym wm rm D vwCl (cs_wM ad2 cI2 cZ n ky vl sp nd cmM hs pl shM) (cs_tM cI2 cZ) (.ref (ad2 0) :: As) (fun r' w' => r' = r ∧ ∃ sh1 : Nat → Bool, w' = cs_wM ad2 cI2 cZ n ky vl sp nd cmM hs pl sh1)) : cs_Pair l D ad cI cJ ad2 cI2 cZ yx wx rx ym wm rm As (cs_wX ad cI cJ n ky vl sp dp cm sh lk bs pl ss st ch cd) (cs_wM ad2 cI2 cZ n ky vl sp nd cmM hs pl shM) := by
  refine ⟨_, hX.toW, fun r1 w1 h1 => ⟨_, hM, fun r2 w2 h2 => ?_⟩⟩
  obtain ⟨rfl, rfl⟩ := h1
  obtain ⟨rfl, sh1, rfl⟩ := h2
  exact ⟨rfl, n, ky, vl, sp, dp, cm, sh, lk, bs, pl, ss, st, ch, cd, nd, cmM, hs, sh1, rfl, rfl, hJ⟩
theorem cs_J_nd (hJ : cs_J n ky sp dp cm sh lk bs pl ss st nd cmM hs) : ∀ v b, v < n → b < n → nd (v * 40 + b) = true → b < v := by
  obtain ⟨⟨h1, h2, h3, h4⟩, -, -, -, h5, -⟩ := hJ
  intro v b hv hb h
  rw [h5 v b hv (by omega)] at h
  exact h3 v b hv h
/-- what the model's sweep finds is what the store shows -/
theorem cs_J_V (hJ : cs_J n ky sp dp cm sh lk bs pl ss st nd cmM hs) {z : Nat} (hz : z < 3) : ∀ v, v < n → (cs_x (sh z) v = true ↔ (cmM (z * 40 + v) = true ∧ ∀ b, b < n → nd (v * 40 + b) = true → cs_x (sh z) b = true)) := by
  obtain ⟨⟨h1, h2, h3, h4⟩, -, -, -, h5, -, h6, -⟩ := hJ
  intro v hv
  rw [(h4 z hz).2.1 v, h6 z v hz (by omega)]
  constructor
  · intro q
    exact ⟨q.1, fun b hb hd => q.2 b (by rw [← h5 v b hv (by omega)]; exact hd)⟩
  · intro q
    exact ⟨q.1, fun b hd => q.2 b (by have := h3 v b hv hd; omega) (by rw [h5 v b hv (by have := h3 v b hv hd; omega)]; exact hd)⟩
theorem cs_J_W (hJ : cs_J n ky sp dp cm sh lk bs pl ss st nd cmM hs) {z k : Nat} (hz : z < 3) (hk : k < 6) : cs_W n ky sp (cs_x (sh z)) k (bs (z * 6 + k)) := (hJ.1.2.2.2 z hz).2.2.2 k hk
theorem cs_J_b (hJ : cs_J n ky sp dp cm sh lk bs pl ss st nd cmM hs) : ∀ q j, q < 18 → bs q = some j → j < n := by
  intro q j hq hj
  have h := cs_J_W hJ (z := q / 6) (k := q % 6) (by omega) (by omega)
  rw [show q / 6 * 6 + q % 6 = q by omega, hj] at h
  exact h.1
theorem cs_J_S (hJ : cs_J n ky sp dp cm sh lk bs pl ss st nd cmM hs) {z v : Nat} (hz : z < 3) (h : cs_x (sh z) v = true) : v < n := (hJ.1.2.2.2 z hz).1 v (((hJ.1.2.2.2 z hz).2.1 v).mp h).1
theorem cs_J_C (hJ : cs_J n ky sp dp cm sh lk bs pl ss st nd cmM hs) {z v : Nat} (hz : z < 3) (h : cs_x (cm z) v = true) : v < n := (hJ.1.2.2.2 z hz).1 v h
theorem cs_k6 (p : Int32) : (p < 0 ∨ ¬ p < 6) ∨ ∃ k : Nat, k < 6 ∧ p = nI k := by
  by_cases h : p < 0
  · exact Or.inl (Or.inl h)
  · by_cases h2 : p < 6
    · obtain ⟨j, hj, rfl⟩ := nI_of h
      exact Or.inr ⟨j, (nI_ltI (b := 6) hj (by decide)).mp h2, rfl⟩
    · exact Or.inl (Or.inr h2)
theorem cs_ff {f : Nat → Bool} {n : Nat} (h : ∀ v, f v = true → v < n) : ∀ j, n ≤ j → f j = false := fun j hj => cs_tf (fun q => by have := h j q; omega)
theorem cs_X_add {f g : Nat → Bool} {v : Nat} {x : Int32} (h : cs_X n sp f x) (hv : v < n) (hg : ∀ b, g b = (f b || decide (b = v))) : cs_X n sp g (if x < sp v then sp v else x) := by
  obtain ⟨h1, h2, h3⟩ := h
  have hgv : g v = true := by rw [hg v]; simp
  have hgf : ∀ b, f b = true → g b = true := fun b hb => by rw [hg b, hb]; rfl
  have hfg : ∀ b, g b = true → b = v ∨ f b = true := fun b hb => by
    rw [hg b] at hb
    by_cases q : b = v
    · exact Or.inl q
    · simp [q] at hb
      exact Or.inr hb
  by_cases q : x < sp v
  · rw [if_pos q]
    rw [cs_ltT] at q
    refine ⟨?_, fun b hb hgb => ?_, Or.inr ⟨v, hv, hgv, rfl⟩⟩
    · rw [cs_leT] at h1 ⊢
      omega
    · rcases hfg b hgb with e | e
      · rw [e, cs_leT]
        exact Int.le_refl _
      · have := h2 b hb e
        rw [cs_leT] at this ⊢
        omega
  · rw [if_neg q]
    rw [cs_nle] at q
    refine ⟨h1, fun b hb hgb => ?_, ?_⟩
    · rcases hfg b hgb with e | e
      · rw [e]
        exact q
      · exact h2 b hb e
    · rcases h3 with e | ⟨b, e1, e2, e3⟩
      · exact Or.inl e
      · exact Or.inr ⟨b, e1, hgf b e2, e3⟩
/-- a client sees a version -/
theorem cs_J_see (hJ : cs_J n ky sp dp cm sh lk bs pl ss st nd cmM hs) {u v : Nat} (hu : u < 3) (hv : v < n) : cs_J n ky sp dp cm sh lk bs pl (va_up ss u (ss u ||| cs_l v)) (cs_su st u (sp v)) nd cmM (va_up hs (u * 40 + v) true) := by
  obtain ⟨hG, h1, h2, h3, h4, h5, h6, h7⟩ := hJ
  have hn := hG.1
  have hv64 : v < 64 := by omega
  refine ⟨hG, h1, fun y w hy hw => ?_, fun y hy => ?_, h4, h5, h6, fun y w hy hw => ?_⟩
  · by_cases q : y = u
    · subst q
      rw [va_up_self] at hw
      by_cases q2 : w = v
      · omega
      · rw [cs_x_add_n hv64 q2] at hw
        exact h2 y w hy hw
    · rw [va_up_ne _ _ q] at hw
      exact h2 y w hy hw
  · by_cases q : y = u
    · subst q
      rw [va_up_self]
      have e : cs_su st y (sp v) y = if st y < sp v then sp v else st y := by
        by_cases q3 : st y < sp v
        · rw [cs_su_t q3, va_up_self, if_pos q3]
        · rw [cs_su_f q3, if_neg q3]
      rw [e]
      exact cs_X_add (h3 y hy) hv (fun b => cs_x_add hv64 b)
    · rw [va_up_ne _ _ q]
      have e : cs_su st u (sp v) y = st y := by
        by_cases q3 : st u < sp v
        · rw [cs_su_t q3, va_up_ne _ _ q]
        · rw [cs_su_f q3]
      rw [e]
      exact h3 y hy
  · by_cases q : y = u
    · subst q
      rw [va_up_self]
      by_cases q2 : w = v
      · rw [q2, va_up_self, cs_x_add_v hv64]
      · rw [va_up_ne _ _ (by omega), cs_x_add_n hv64 q2]
        exact h7 y w hy hw
    · rw [va_up_ne _ _ q, va_up_ne _ _ (by omega)]
      exact h7 y w hy hw
/-- what has been seen is all shown -/
theorem cs_J_move (hJ : cs_J n ky sp dp cm sh lk bs pl ss st nd cmM hs) {u z : Nat} (hu : u < 3) (hz : z < 3) : (ss u &&& (sh z ^^^ (-1))) = 0 ↔ ∀ a, a < n → hs (u * 40 + a) = true → cs_x (sh z) a = true := by
  obtain ⟨hG, h1, h2, h3, h4, h5, h6, h7⟩ := hJ
  have hn := hG.1
  constructor
  · intro h a ha hh
    rw [h7 u a hu (by omega)] at hh
    have e : cs_x (ss u &&& (sh z ^^^ (-1))) a = false := by rw [h]; exact cs_x_0 a
    rw [cs_x_and, cs_x_not _ (by omega), hh] at e
    simpa using e
  · intro h
    refine cs_x_ext (fun i hi => ?_)
    rw [cs_x_and, cs_x_not _ hi, cs_x_0]
    cases e : cs_x (ss u) i with
    | false => rfl
    | true =>
      have hin := h2 u i hu e
      rw [h i hin (by rw [h7 u i hu (by omega)]; exact e)]
      rfl
/-- a place changes -/
theorem cs_J_pl (hJ : cs_J n ky sp dp cm sh lk bs pl ss st nd cmM hs) {u z : Nat} (hz : z < 3) : cs_J n ky sp dp cm sh lk bs (va_up pl u z) ss st nd cmM hs := by
  obtain ⟨hG, h1, h2⟩ := hJ
  refine ⟨hG, fun y hy => ?_, h2⟩
  by_cases q : y = u
  · rw [q, va_up_self]; exact hz
  · rw [va_up_ne _ _ q]; exact h1 y hy
/-- a version comes to a centre -/
theorem cs_J_come {v z : Nat} {S : Int64} {lk1 : Nat → Int32} {bs1 : Nat → Option Nat} (hJ : cs_J n ky sp dp cm sh lk bs pl ss st nd cmM hs) (hz : z < 3) (hv : v < n) (hG1 : cs_G n ky sp dp (va_up cm z (cm z ||| cs_l v)) (va_up sh z S) lk1 bs1) : cs_J n ky sp dp (va_up cm z (cm z ||| cs_l v)) (va_up sh z S) lk1 bs1 pl ss st nd (va_up cmM (z * 40 + v) true) hs := by
  obtain ⟨hG, h1, h2, h3, h4, h5, h6, h7⟩ := hJ
  have hn := hG.1
  have hv64 : v < 64 := by omega
  refine ⟨hG1, h1, h2, h3, h4, h5, fun y w hy hw => ?_, h7⟩
  by_cases q : y = z
  · subst q
    rw [va_up_self]
    by_cases q2 : w = v
    · rw [q2, va_up_self, cs_x_add_v hv64]
    · rw [va_up_ne _ _ (by omega), cs_x_add_n hv64 q2]
      exact h6 y w hy hw
  · rw [va_up_ne _ _ q, va_up_ne _ _ (by omega)]
    exact h6 y w hy hw
/-- all versions come to a centre -/
theorem cs_J_all {z : Nat} {C S : Int64} {lk1 : Nat → Int32} {bs1 : Nat → Option Nat} {cm1 : Nat → Bool} (hJ : cs_J n ky sp dp cm sh lk bs pl ss st nd cmM hs) (hz : z < 3) (hG1 : cs_G n ky sp dp (va_up cm z C) (va_up sh z S) lk1 bs1) (hC : ∀ j, j < n → cs_x C j = true) (g0 : ∀ a, a < n → cm1 (z * 40 + a) = true) (g1 : ∀ q, ¬ (z * 40 ≤ q ∧ q < z * 40 + n) → cm1 q = cmM q) : cs_J n ky sp dp (va_up cm z C) (va_up sh z S) lk1 bs1 pl ss st nd cm1 hs := by
  obtain ⟨hG, h1, h2, h3, h4, h5, h6, h7⟩ := hJ
  have hn := hG.1
  refine ⟨hG1, h1, h2, h3, h4, h5, fun y w hy hw => ?_, h7⟩
  by_cases q : y = z
  · subst q
    rw [va_up_self]
    rcases Nat.lt_or_ge w n with q2 | q2
    · rw [g0 w q2, hC w q2]
    · have e1 := (hG1.2.2.2 y hy).1
      rw [va_up_self] at e1
      rw [g1 _ (by omega), h6 y w hy hw, cs_ff (hG.2.2.2 y hy).1 w q2, cs_ff e1 w q2]
  · rw [va_up_ne _ _ q, g1 _ (by omega)]
    exact h6 y w hy hw
/-- a version is new: nobody has it yet -/
theorem cs_G_new {k : Nat} {x : Int32} {d : Int64} (hG : cs_G n ky sp dp cm sh lk bs) (hn : n < 40) (hk : k < 6) (hd : ∀ b, cs_x d b = true → b < n) : cs_G (n + 1) (va_up ky n k) (va_up sp n x) (va_up dp n d) cm sh lk bs := by
  obtain ⟨h1, h2, h3, h4⟩ := hG
  refine ⟨by omega, fun v => ?_, fun v b hv hb => ?_, fun z hz => ?_⟩
  · by_cases q : v = n
    · rw [q, va_up_self]; exact hk
    · rw [va_up_ne _ _ q]; exact h2 v
  · by_cases q : v = n
    · rw [q, va_up_self] at hb
      have := hd b hb
      omega
    · rw [va_up_ne _ _ q] at hb
      exact h3 v b (by omega) hb
  · obtain ⟨c1, c2, c3, c4⟩ := h4 z hz
    refine ⟨fun v hv => by have := c1 v hv; omega, fun v => ?_, fun v hv hs => ?_, fun k' hk' => ?_⟩
    · by_cases q : v = n
      · subst q
        refine ⟨fun e => ?_, fun e => ?_⟩
        · have := c1 v ((c2 v).mp e).1
          omega
        · have := c1 v e.1
          omega
      · rw [va_up_ne _ _ q]
        exact c2 v
    · have := c1 v hv
      rw [va_up_ne _ _ (by omega)]
      exact c3 v hv hs
    · have hw := c4 k' hk'
      have hSn : ∀ v, cs_x (sh z) v = true → v < n := fun v hv => c1 v ((c2 v).mp hv).1
      refine cs_W_skip ?_ (fun e => by have := hSn n e.1; omega)
      show cs_W n (va_up ky n k) (va_up sp n x) (cs_x (sh z)) k' (bs (z * 6 + k'))
      have hw : cs_W n ky sp (cs_x (sh z)) k' (bs (z * 6 + k')) := hw
      generalize bs (z * 6 + k') = o at hw
      cases o with
      | none =>
        intro v hv hV
        rw [va_up_ne _ _ (by omega)]
        exact hw v hv hV
      | some j =>
        obtain ⟨w1, w2, w3, w4⟩ := hw
        refine ⟨w1, w2, by rw [va_up_ne _ _ (by omega)]; exact w3, fun v hv hV hkv => ?_⟩
        rw [va_up_ne _ _ (by omega)] at hkv
        rw [va_up_ne _ _ (by omega), va_up_ne _ _ (by omega)]
        exact w4 v hv hV hkv
/-- a client writes: before it has seen its own version -/
theorem cs_J_new {u k : Nat} {cm1 sh1 : Nat → Int64} {lk1 : Nat → Int32} {bs1 : Nat → Option Nat} {nd1 cmM1 : Nat → Bool} (hJ : cs_J n ky sp dp cm sh lk bs pl ss st nd cmM hs) (hn : n < 40) (hu : u < 3) (hG1 : cs_G (n + 1) (va_up ky n k) (va_up sp n (st u + 1)) (va_up dp n (ss u)) cm1 sh1 lk1 bs1) (g0 : ∀ a, a < n → nd1 (n * 40 + a) = hs (u * 40 + a)) (g1 : ∀ q, ¬ (n * 40 ≤ q ∧ q < n * 40 + n) → nd1 q = nd q) (hc : ∀ z v, z < 3 → v < 40 → cmM1 (z * 40 + v) = cs_x (cm1 z) v) : cs_J (n + 1) (va_up ky n k) (va_up sp n (st u + 1)) (va_up dp n (ss u)) cm1 sh1 lk1 bs1 pl ss st nd1 cmM1 hs := by
  obtain ⟨hG, h1, h2, h3, h4, h5, h6, h7⟩ := hJ
  refine ⟨hG1, h1, fun y w hy hw => by have := h2 y w hy hw; omega, fun y hy => ?_, fun v b hv hb => ?_, fun v b hv hv2 hb => ?_, hc, h7⟩
  · refine cs_X_skip ?_ (Or.inl (cs_ff (fun v hv => h2 y v hy hv) n (Nat.le_refl n)))
    obtain ⟨x1, x2, x3⟩ := h3 y hy
    refine ⟨x1, fun b hb hf => by rw [va_up_ne _ _ (by omega)]; exact x2 b hb hf, ?_⟩
    rcases x3 with e | ⟨b, e1, e2, e3⟩
    · exact Or.inl e
    · exact Or.inr ⟨b, e1, e2, by rw [va_up_ne _ _ (by omega)]; exact e3⟩
  · by_cases q : v = n
    · subst q
      rw [va_up_self]
      rcases Nat.lt_or_ge b v with q2 | q2
      · rw [g0 b q2]
        exact h7 u b hu hb
      · rw [g1 _ (by omega), h5 v b (Nat.le_refl v) hn hb, cs_ff (fun w hw => h2 u w hu hw) b q2]
    · rw [va_up_ne _ _ q, g1 _ (by omega)]
      exact h4 v b (by omega) hb
  · rw [g1 _ (by omega)]
    exact h5 v b (by omega) hv2 hb
end CSJ
end
section
set_option maxHeartbeats 4000000 in
theorem cp_value (l : Launch) (D : va_G) {ad : Nat → Nat} {cI cJ : ClassId} {ad2 : Nat → Nat} {cI2 cZ : ClassId} {n : Nat} {ky : Nat → Nat} {vl sp : Nat → Int32} {dp cm sh : Nat → Int64} {lk : Nat → Int32} {bs : Nat → Option Nat} {pl : Nat → Nat} {ss : Nat → Int64} {st : Nat → Int32} {ch : Nat → Nat} {cd : Nat} {nd cmM hs shM : Nat → Bool} (hJ : cs_J n ky sp dp cm sh lk bs pl ss st nd cmM hs) (p0 : Int32) : cs_Pair l D ad cI cJ ad2 cI2 cZ yX0_value (ws_ yX0_value cX0_value 2 (some .int)) ({ frames := 3, cells := 0, slots := 0, locals := 71 }) yX1_value (ws_ yX1_value cX1_value 2 (some .int)) ({ frames := 3, cells := 0, slots := 0, locals := 71 }) [.int p0] (cs_wX ad cI cJ n ky vl sp dp cm sh lk bs pl ss st ch cd) (cs_wM ad2 cI2 cZ n ky vl sp nd cmM hs pl shM) := by
  have hn := hJ.1.1
  rcases cs_kn p0 (n := n) (by omega) with h | ⟨v, hv, rfl⟩
  · exact cs_pairRR hJ (cs_value_1 l D (cs_nv_t h)) (cm_value_1 l D (cs_nv_t h))
  · exact cs_pairRR hJ (cs_value_2 l D v hv hn) (cm_value_2 l D v hv hn)

set_option maxHeartbeats 4000000 in
theorem cp_stamp (l : Launch) (D : va_G) {ad : Nat → Nat} {cI cJ : ClassId} {ad2 : Nat → Nat} {cI2 cZ : ClassId} {n : Nat} {ky : Nat → Nat} {vl sp : Nat → Int32} {dp cm sh : Nat → Int64} {lk : Nat → Int32} {bs : Nat → Option Nat} {pl : Nat → Nat} {ss : Nat → Int64} {st : Nat → Int32} {ch : Nat → Nat} {cd : Nat} {nd cmM hs shM : Nat → Bool} (hJ : cs_J n ky sp dp cm sh lk bs pl ss st nd cmM hs) (p0 : Int32) : cs_Pair l D ad cI cJ ad2 cI2 cZ yX0_stamp (ws_ yX0_stamp cX0_stamp 2 (some .int)) ({ frames := 3, cells := 0, slots := 0, locals := 71 }) yX1_stamp (ws_ yX1_stamp cX1_stamp 2 (some .int)) ({ frames := 3, cells := 0, slots := 0, locals := 71 }) [.int p0] (cs_wX ad cI cJ n ky vl sp dp cm sh lk bs pl ss st ch cd) (cs_wM ad2 cI2 cZ n ky vl sp nd cmM hs pl shM) := by
  have hn := hJ.1.1
  rcases cs_kn p0 (n := n) (by omega) with h | ⟨v, hv, rfl⟩
  · exact cs_pairRR hJ (cs_stamp_1 l D (cs_nv_t h)) (cm_stamp_1 l D (cs_nv_t h))
  · exact cs_pairRR hJ (cs_stamp_2 l D v hv hn) (cm_stamp_2 l D v hv hn)

set_option maxHeartbeats 4000000 in
theorem cp_depends (l : Launch) (D : va_G) {ad : Nat → Nat} {cI cJ : ClassId} {ad2 : Nat → Nat} {cI2 cZ : ClassId} {n : Nat} {ky : Nat → Nat} {vl sp : Nat → Int32} {dp cm sh : Nat → Int64} {lk : Nat → Int32} {bs : Nat → Option Nat} {pl : Nat → Nat} {ss : Nat → Int64} {st : Nat → Int32} {ch : Nat → Nat} {cd : Nat} {nd cmM hs shM : Nat → Bool} (hJ : cs_J n ky sp dp cm sh lk bs pl ss st nd cmM hs) (p0 p1 : Int32) : cs_Pair l D ad cI cJ ad2 cI2 cZ yX0_depends (ws_ yX0_depends cX0_depends 3 (some .boolean)) ({ frames := 3, cells := 0, slots := 0, locals := 71 }) yX1_depends (ws_ yX1_depends cX1_depends 3 (some .boolean)) ({ frames := 3, cells := 0, slots := 0, locals := 71 }) [.int p0, .int p1] (cs_wX ad cI cJ n ky vl sp dp cm sh lk bs pl ss st ch cd) (cs_wM ad2 cI2 cZ n ky vl sp nd cmM hs pl shM) := by
  have hn := hJ.1.1
  rcases cs_kn p0 (n := n) (by omega) with h | ⟨v, hv, rfl⟩
  · exact cs_pairRR hJ (cs_depends_1 l D (cs_nv_t h)) (cm_depends_1 l D (cs_nv_t h))
  · rcases cs_kn p1 (n := n) (by omega) with h | ⟨z, hz, rfl⟩
    · exact cs_pairRR hJ (cs_depends_2 l D v hv hn (cs_nv_t h)) (cm_depends_2 l D v hv hn (cs_nv_t h))
    · have e : (decide (z < v) && nd (v * 40 + z)) = cs_x (dp v) z := by
        rw [hJ.2.2.2.2.1 v z hv (by omega)]
        cases q : cs_x (dp v) z with
        | false => simp
        | true => simp [hJ.1.2.2.1 v z hv q]
      refine cs_pairRR hJ (cs_depends_3 l D v z hv hn hz) ?_
      rw [← e]
      exact cm_depends_3 l D v z hv hn hz

set_option maxHeartbeats 4000000 in
theorem cp_visible (l : Launch) (D : va_G) {ad : Nat → Nat} {cI cJ : ClassId} {ad2 : Nat → Nat} {cI2 cZ : ClassId} {n : Nat} {ky : Nat → Nat} {vl sp : Nat → Int32} {dp cm sh : Nat → Int64} {lk : Nat → Int32} {bs : Nat → Option Nat} {pl : Nat → Nat} {ss : Nat → Int64} {st : Nat → Int32} {ch : Nat → Nat} {cd : Nat} {nd cmM hs shM : Nat → Bool} (hJ : cs_J n ky sp dp cm sh lk bs pl ss st nd cmM hs) (p0 p1 : Int32) : cs_Pair l D ad cI cJ ad2 cI2 cZ yX0_visible (ws_ yX0_visible cX0_visible 3 (some .boolean)) ({ frames := 3, cells := 0, slots := 0, locals := 71 }) yX1_visible (ws_ yX1_visible cX1_visible 3 (some .boolean)) ({ frames := 3, cells := 0, slots := 0, locals := 71 }) [.int p0, .int p1] (cs_wX ad cI cJ n ky vl sp dp cm sh lk bs pl ss st ch cd) (cs_wM ad2 cI2 cZ n ky vl sp nd cmM hs pl shM) := by
  have hn := hJ.1.1
  rcases cs_kn p0 (n := n) (by omega) with h | ⟨v, hv, rfl⟩
  · exact cs_pairRR hJ (cs_visible_1 l D (cs_nv_t h)) (cm_visible_1 l D (cs_nv_t h))
  · rcases cs_k3 p1 with h | ⟨z, hz, rfl⟩
    · exact cs_pairRR hJ (cs_visible_2 l D v hv hn (cs_bad_t h)) (cm_visible_2 l D v hv hn (cs_bad_t h))
    · exact cs_pairRW hJ (cs_visible_3 l D v z hv hn hz) (cm_visible_3 l D v hv z hz hn (cs_x (sh z)) (cs_J_V hJ hz) (cs_J_nd hJ))

set_option maxHeartbeats 4000000 in
theorem cp_winner (l : Launch) (D : va_G) {ad : Nat → Nat} {cI cJ : ClassId} {ad2 : Nat → Nat} {cI2 cZ : ClassId} {n : Nat} {ky : Nat → Nat} {vl sp : Nat → Int32} {dp cm sh : Nat → Int64} {lk : Nat → Int32} {bs : Nat → Option Nat} {pl : Nat → Nat} {ss : Nat → Int64} {st : Nat → Int32} {ch : Nat → Nat} {cd : Nat} {nd cmM hs shM : Nat → Bool} (hJ : cs_J n ky sp dp cm sh lk bs pl ss st nd cmM hs) (p0 p1 : Int32) : cs_Pair l D ad cI cJ ad2 cI2 cZ yX0_winner (ws_ yX0_winner cX0_winner 3 (some .int)) ({ frames := 3, cells := 0, slots := 0, locals := 71 }) yX1_winner (ws_ yX1_winner cX1_winner 5 (some .int)) ({ frames := 2, cells := 0, slots := 0, locals := 47 }) [.int p0, .int p1] (cs_wX ad cI cJ n ky vl sp dp cm sh lk bs pl ss st ch cd) (cs_wM ad2 cI2 cZ n ky vl sp nd cmM hs pl shM) := by
  have hn := hJ.1.1
  rcases cs_k3 p0 with h | ⟨z, hz, rfl⟩
  · exact cs_pairRR hJ (cs_winner_1 l D (cs_bad_t h)) (cm_winner_1 l D (cs_bad_t h))
  · rcases cs_k6 p1 with h | ⟨k, hk, rfl⟩
    · exact cs_pairRR hJ (cs_winner_2 l D z hz h) (cm_winner_2 l D z hz (cs_nk_t h))
    · exact cs_pairRW hJ (cs_winner_3 l D z k hz hk) (cm_winner_3 l D z hz hn (cs_x (sh z)) (cs_J_V hJ hz) (cs_J_nd hJ) hJ.1.2.1 k hk (bs (z * 6 + k)) (cs_J_W hJ hz hk))

set_option maxHeartbeats 4000000 in
theorem cp_held (l : Launch) (D : va_G) {ad : Nat → Nat} {cI cJ : ClassId} {ad2 : Nat → Nat} {cI2 cZ : ClassId} {n : Nat} {ky : Nat → Nat} {vl sp : Nat → Int32} {dp cm sh : Nat → Int64} {lk : Nat → Int32} {bs : Nat → Option Nat} {pl : Nat → Nat} {ss : Nat → Int64} {st : Nat → Int32} {ch : Nat → Nat} {cd : Nat} {nd cmM hs shM : Nat → Bool} (hJ : cs_J n ky sp dp cm sh lk bs pl ss st nd cmM hs) (p0 : Int32) : cs_Pair l D ad cI cJ ad2 cI2 cZ yX0_held (ws_ yX0_held cX0_held 2 (some .int)) ({ frames := 3, cells := 0, slots := 0, locals := 71 }) yX1_held (ws_ yX1_held cX1_held 4 (some .int)) ({ frames := 3, cells := 0, slots := 0, locals := 71 }) [.int p0] (cs_wX ad cI cJ n ky vl sp dp cm sh lk bs pl ss st ch cd) (cs_wM ad2 cI2 cZ n ky vl sp nd cmM hs pl shM) := by
  have hn := hJ.1.1
  rcases cs_k3 p0 with h | ⟨z, hz, rfl⟩
  · exact cs_pairRR hJ (cs_held_1 l D (cs_bad_t h)) (cm_held_1 l D (cs_bad_t h))
  · have e : cs_n (fun v => cmM (z * 40 + v) && !cs_x (sh z) v) n = cs_n (cs_x (cm z &&& (sh z ^^^ (-1)))) 40 := by
      rw [cs_bits_not, cs_n_to (f := fun b => cs_x (cm z) b && !cs_x (sh z) b) hn (fun j hj => by
        show (cs_x (cm z) j && !cs_x (sh z) j) = false
        rw [cs_ff (fun v hv => cs_J_C hJ hz hv) j hj]
        rfl)]
      exact cs_n_congr n (fun j hj => by
        show (cmM (z * 40 + j) && !cs_x (sh z) j) = (cs_x (cm z) j && !cs_x (sh z) j)
        rw [hJ.2.2.2.2.2.2.1 z j hz (by omega)])
    refine cs_pairRW hJ (cs_held_2 l D z hz) ?_
    rw [← e]
    exact cm_held_2 l D z hz hn (cs_x (sh z)) (cs_J_V hJ hz) (cs_J_nd hJ)

set_option maxHeartbeats 4000000 in
theorem cp_seen (l : Launch) (D : va_G) {ad : Nat → Nat} {cI cJ : ClassId} {ad2 : Nat → Nat} {cI2 cZ : ClassId} {n : Nat} {ky : Nat → Nat} {vl sp : Nat → Int32} {dp cm sh : Nat → Int64} {lk : Nat → Int32} {bs : Nat → Option Nat} {pl : Nat → Nat} {ss : Nat → Int64} {st : Nat → Int32} {ch : Nat → Nat} {cd : Nat} {nd cmM hs shM : Nat → Bool} (hJ : cs_J n ky sp dp cm sh lk bs pl ss st nd cmM hs) (p0 : Int32) : cs_Pair l D ad cI cJ ad2 cI2 cZ yX0_seen (ws_ yX0_seen cX0_seen 2 (some .int)) ({ frames := 3, cells := 0, slots := 0, locals := 71 }) yX1_seen (ws_ yX1_seen cX1_seen 4 (some .int)) ({ frames := 3, cells := 0, slots := 0, locals := 71 }) [.int p0] (cs_wX ad cI cJ n ky vl sp dp cm sh lk bs pl ss st ch cd) (cs_wM ad2 cI2 cZ n ky vl sp nd cmM hs pl shM) := by
  have hn := hJ.1.1
  rcases cs_k3 p0 with h | ⟨z, hz, rfl⟩
  · exact cs_pairRR hJ (cs_seen_1 l D (cs_bad_t h)) (cm_seen_1 l D (cs_bad_t h))
  · have e : cs_n (fun v => hs (z * 40 + v)) n = cs_n (cs_x (ss z)) 40 := by
      rw [cs_n_to (f := cs_x (ss z)) hn (cs_ff (fun v hv => hJ.2.2.1 z v hz hv))]
      exact cs_n_congr n (fun j hj => hJ.2.2.2.2.2.2.2 z j hz (by omega))
    refine cs_pairRR hJ (cs_seen_2 l D z hz) ?_
    rw [← e]
    exact cm_seen_2 l D z hz hn

set_option maxHeartbeats 4000000 in
theorem cp_agree (l : Launch) (D : va_G) {ad : Nat → Nat} {cI cJ : ClassId} {ad2 : Nat → Nat} {cI2 cZ : ClassId} {n : Nat} {ky : Nat → Nat} {vl sp : Nat → Int32} {dp cm sh : Nat → Int64} {lk : Nat → Int32} {bs : Nat → Option Nat} {pl : Nat → Nat} {ss : Nat → Int64} {st : Nat → Int32} {ch : Nat → Nat} {cd : Nat} {nd cmM hs shM : Nat → Bool} (hJ : cs_J n ky sp dp cm sh lk bs pl ss st nd cmM hs) (p0 p1 : Int32) : cs_Pair l D ad cI cJ ad2 cI2 cZ yX0_agree (ws_ yX0_agree cX0_agree 5 (some .int)) ({ frames := 3, cells := 0, slots := 0, locals := 71 }) yX1_agree (ws_ yX1_agree cX1_agree 5 (some .int)) ({ frames := 3, cells := 0, slots := 0, locals := 71 }) [.int p0, .int p1] (cs_wX ad cI cJ n ky vl sp dp cm sh lk bs pl ss st ch cd) (cs_wM ad2 cI2 cZ n ky vl sp nd cmM hs pl shM) := by
  have hn := hJ.1.1
  rcases cs_k3 p0 with h | ⟨z, hz, rfl⟩
  · exact cs_pairRR hJ (cs_agree_1 l D (cs_bad_t h)) (cm_agree_1 l D (cs_bad_t h))
  · rcases cs_k3 p1 with h | ⟨y, hy, rfl⟩
    · exact cs_pairRR hJ (cs_agree_2 l D z hz (cs_bad_t h)) (cm_agree_2 l D z hz (cs_bad_t h))
    · exact cs_pairRW hJ (cs_agree_3 l D z y hz hy (fun q j hq hj => by have := cs_J_b hJ q j hq hj; omega)) (cm_agree_3 l D z y hz hy hn (cs_x (sh z)) (cs_J_V hJ hz) (cs_J_nd hJ) (cs_x (sh y)) (cs_J_V hJ hy) hJ.1.2.1 (fun k => bs (z * 6 + k)) (fun k => bs (y * 6 + k)) (fun k hk => cs_J_W hJ hz hk) (fun k hk => cs_J_W hJ hy hk))

set_option maxHeartbeats 4000000 in
theorem cp_read (l : Launch) (D : va_G) {ad : Nat → Nat} {cI cJ : ClassId} {ad2 : Nat → Nat} {cI2 cZ : ClassId} {n : Nat} {ky : Nat → Nat} {vl sp : Nat → Int32} {dp cm sh : Nat → Int64} {lk : Nat → Int32} {bs : Nat → Option Nat} {pl : Nat → Nat} {ss : Nat → Int64} {st : Nat → Int32} {ch : Nat → Nat} {cd : Nat} {nd cmM hs shM : Nat → Bool} (hJ : cs_J n ky sp dp cm sh lk bs pl ss st nd cmM hs) (p0 p1 : Int32) : cs_Pair l D ad cI cJ ad2 cI2 cZ yX0_read (ws_ yX0_read cX0_read 4 (some .int)) ({ frames := 3, cells := 0, slots := 0, locals := 71 }) yX1_read (ws_ yX1_read cX1_read 4 (some .int)) ({ frames := 3, cells := 0, slots := 0, locals := 71 }) [.int p0, .int p1] (cs_wX ad cI cJ n ky vl sp dp cm sh lk bs pl ss st ch cd) (cs_wM ad2 cI2 cZ n ky vl sp nd cmM hs pl shM) := by
  have hn := hJ.1.1
  rcases cs_k3 p0 with h | ⟨u, hu, rfl⟩
  · exact cs_pairRR hJ (cs_read_1 l D (cs_bad_t h)) (cm_read_1 l D (cs_bad_t h))
  · rcases cs_k6 p1 with h | ⟨k, hk, rfl⟩
    · exact cs_pairRR hJ (cs_read_2 l D u hu h) (cm_read_2 l D u hu (cs_nk_t h))
    · have hpl := hJ.2.1 u hu
      have hW := cs_J_W hJ hpl hk
      cases ho : bs (pl u * 6 + k) with
      | none =>
        rw [ho] at hW
        exact cs_pairRW hJ (cs_read_3 l D u k hu hk hpl ho) (cm_read_3 l D u hu hpl hn (cs_x (sh (pl u))) (cs_J_V hJ hpl) (cs_J_nd hJ) hJ.1.2.1 k hk hW)
      | some v =>
        rw [ho] at hW
        have hv : v < n := hW.1
        refine ⟨_, cs_read_4 l D u k v hu hk hpl (by omega) ho, fun r1 w1 h1 => ⟨_, cm_read_4 l D u hu hpl hn (cs_x (sh (pl u))) (cs_J_V hJ hpl) (cs_J_nd hJ) hJ.1.2.1 k hk v hW, fun r2 w2 h2 => ?_⟩⟩
        obtain ⟨rfl, rfl⟩ := h1
        obtain ⟨rfl, sh1, rfl⟩ := h2
        exact ⟨rfl, n, ky, vl, sp, dp, cm, sh, lk, bs, pl, _, _, ch, cd, nd, cmM, _, sh1, rfl, rfl, cs_J_see hJ hu hv⟩

set_option maxHeartbeats 4000000 in
theorem cp_move (l : Launch) (D : va_G) {ad : Nat → Nat} {cI cJ : ClassId} {ad2 : Nat → Nat} {cI2 cZ : ClassId} {n : Nat} {ky : Nat → Nat} {vl sp : Nat → Int32} {dp cm sh : Nat → Int64} {lk : Nat → Int32} {bs : Nat → Option Nat} {pl : Nat → Nat} {ss : Nat → Int64} {st : Nat → Int32} {ch : Nat → Nat} {cd : Nat} {nd cmM hs shM : Nat → Bool} (hJ : cs_J n ky sp dp cm sh lk bs pl ss st nd cmM hs) (p0 p1 : Int32) : cs_Pair l D ad cI cJ ad2 cI2 cZ yX0_move (ws_ yX0_move cX0_move 3 (some .int)) ({ frames := 3, cells := 0, slots := 0, locals := 71 }) yX1_move (ws_ yX1_move cX1_move 4 (some .int)) ({ frames := 3, cells := 0, slots := 0, locals := 71 }) [.int p0, .int p1] (cs_wX ad cI cJ n ky vl sp dp cm sh lk bs pl ss st ch cd) (cs_wM ad2 cI2 cZ n ky vl sp nd cmM hs pl shM) := by
  have hn := hJ.1.1
  rcases cs_k3 p0 with h | ⟨u, hu, rfl⟩
  · exact cs_pairRR hJ (cs_move_1 l D (cs_bad_t h)) (cm_move_1 l D (cs_bad_t h))
  · rcases cs_k3 p1 with h | ⟨z, hz, rfl⟩
    · exact cs_pairRR hJ (cs_move_2 l D u hu (cs_bad_t h)) (cm_move_2 l D u hu (cs_bad_t h))
    · by_cases q : (ss u &&& (sh z ^^^ (-1))) = 0
      · refine ⟨_, cs_move_4 l D u z hu hz q, fun r1 w1 h1 => ⟨_, cm_move_4 l D u hu z hz hn (cs_x (sh z)) (cs_J_V hJ hz) (cs_J_nd hJ) ((cs_J_move hJ hu hz).mp q), fun r2 w2 h2 => ?_⟩⟩
        obtain ⟨rfl, rfl⟩ := h1
        obtain ⟨rfl, sh1, rfl⟩ := h2
        exact ⟨rfl, n, ky, vl, sp, dp, cm, sh, lk, bs, _, ss, st, ch, cd, nd, cmM, hs, sh1, rfl, rfl, cs_J_pl hJ hz⟩
      · exact cs_pairRW hJ (cs_move_3 l D u z hu hz q) (cm_move_3 l D u hu z hz hn (cs_x (sh z)) (cs_J_V hJ hz) (cs_J_nd hJ) (fun e => q ((cs_J_move hJ hu hz).mpr e)))

set_option maxHeartbeats 4000000 in
theorem cp_deliver (l : Launch) (D : va_G) {ad : Nat → Nat} {cI cJ : ClassId} {ad2 : Nat → Nat} {cI2 cZ : ClassId} {n : Nat} {ky : Nat → Nat} {vl sp : Nat → Int32} {dp cm sh : Nat → Int64} {lk : Nat → Int32} {bs : Nat → Option Nat} {pl : Nat → Nat} {ss : Nat → Int64} {st : Nat → Int32} {ch : Nat → Nat} {cd : Nat} {nd cmM hs shM : Nat → Bool} (hJ : cs_J n ky sp dp cm sh lk bs pl ss st nd cmM hs) (p0 p1 : Int32) : cs_Pair l D ad cI cJ ad2 cI2 cZ yX0_deliver (ws_ yX0_deliver cX0_deliver 3 (some .int)) ({ frames := 3, cells := 0, slots := 0, locals := 71 }) yX1_deliver (ws_ yX1_deliver cX1_deliver 4 (some .int)) ({ frames := 3, cells := 0, slots := 0, locals := 71 }) [.int p0, .int p1] (cs_wX ad cI cJ n ky vl sp dp cm sh lk bs pl ss st ch cd) (cs_wM ad2 cI2 cZ n ky vl sp nd cmM hs pl shM) := by
  have hn := hJ.1.1
  rcases cs_kn p0 (n := n) (by omega) with h | ⟨v, hv, rfl⟩
  · exact cs_pairRR hJ (cs_deliver_1 l D (cs_nv_t h)) (cm_deliver_1 l D (cs_nv_t h))
  · rcases cs_k3 p1 with h | ⟨z, hz, rfl⟩
    · exact cs_pairRR hJ (cs_deliver_2 l D v hv hn (cs_bad_t h)) (cm_deliver_2 l D v hv hn (cs_bad_t h))
    · have eC := hJ.2.2.2.2.2.2.1 z v hz (by omega)
      cases hc : cs_x (cm z) v with
      | true => exact cs_pairRR hJ (cs_deliver_3 l D v z hv hn hz hc) (cm_deliver_3 l D v z hv hn hz (eC.trans hc))
      | false =>
        refine ⟨_, cs_deliver_4 l D v z hv hn hz hc _ (cs_arrive_G l D hJ.1 z v hz hv hc), fun r1 w1 h1 => ?_⟩
        obtain ⟨k, S, lk1, bs1, ch1, cd1, rfl, hk, hG1, hcnt, rfl⟩ := h1
        have hJ1 := cs_J_come hJ hz hv hG1
        have hV1 := cs_J_V hJ1 hz
        have hS1 : ∀ w, cs_x S w = true → w < n := fun w hw => cs_J_S hJ1 hz (by rw [va_up_self]; exact hw)
        rw [va_up_self] at hV1
        refine ⟨_, cm_deliver_4 l D v hv z hz hn (cs_x (sh z)) (cs_J_V hJ hz) (cs_J_nd hJ) (cs_x S) hV1 (eC.trans hc), fun r2 w2 h2 => ?_⟩
        obtain ⟨rfl, sh1, rfl⟩ := h2
        have a1 := cs_n_to (f := cs_x S) hn (cs_ff hS1)
        have a2 := cs_n_to (f := cs_x (sh z)) hn (cs_ff (fun w hw => cs_J_S hJ hz hw))
        refine ⟨?_, n, ky, vl, sp, dp, _, _, lk1, bs1, pl, ss, st, ch1, cd1, nd, _, hs, sh1, rfl, rfl, hJ1⟩
        rw [pk_sub (by omega)]
        congr 1
        omega

set_option maxHeartbeats 4000000 in
theorem cp_deliverAll (l : Launch) (D : va_G) {ad : Nat → Nat} {cI cJ : ClassId} {ad2 : Nat → Nat} {cI2 cZ : ClassId} {n : Nat} {ky : Nat → Nat} {vl sp : Nat → Int32} {dp cm sh : Nat → Int64} {lk : Nat → Int32} {bs : Nat → Option Nat} {pl : Nat → Nat} {ss : Nat → Int64} {st : Nat → Int32} {ch : Nat → Nat} {cd : Nat} {nd cmM hs shM : Nat → Bool} (hJ : cs_J n ky sp dp cm sh lk bs pl ss st nd cmM hs) (p0 : Int32) : cs_Pair l D ad cI cJ ad2 cI2 cZ yX0_deliverAll (ws_ yX0_deliverAll cX0_deliverAll 5 (some .int)) ({ frames := 3, cells := 0, slots := 0, locals := 71 }) yX1_deliverAll (ws_ yX1_deliverAll cX1_deliverAll 4 (some .int)) ({ frames := 3, cells := 0, slots := 0, locals := 71 }) [.int p0] (cs_wX ad cI cJ n ky vl sp dp cm sh lk bs pl ss st ch cd) (cs_wM ad2 cI2 cZ n ky vl sp nd cmM hs pl shM) := by
  have hn := hJ.1.1
  rcases cs_k3 p0 with h | ⟨z, hz, rfl⟩
  · exact cs_pairRR hJ (cs_deliverAll_1 l D (cs_bad_t h)) (cm_deliverAll_1 l D (cs_bad_t h))
  · refine ⟨fun r w' => ∃ (a : Nat) (C S : Int64) (lk1 : Nat → Int32) (bs1 : Nat → Option Nat) (ch1 : Nat → Nat) (cd1 : Nat), r = nI a ∧ cs_G n ky sp dp (va_up cm z C) (va_up sh z S) lk1 bs1 ∧ (∀ j, j < n → cs_x C j = true) ∧ cs_n (cs_x S) 40 = cs_n (cs_x (sh z)) 40 + a ∧ w' = cs_wX ad cI cJ n ky vl sp dp (va_up cm z C) (va_up sh z S) lk1 bs1 pl ss st ch1 cd1, ?_, fun r1 w1 h1 => ?_⟩
    · refine cs_deliverAll_2 l D z hz hn _ (fun v a cm' sh' lk' bs' ch' cd' => cs_G n ky sp dp cm' sh' lk' bs' ∧ ∃ C S : Int64, cm' = va_up cm z C ∧ sh' = va_up sh z S ∧ (∀ j, j < v → cs_x C j = true) ∧ cs_n (cs_x S) 40 = cs_n (cs_x (sh z)) 40 + a) ?_ ?_ ?_ ?_
      · intro v a cm' sh' lk' bs' ch' cd' hI hv hc
        obtain ⟨hG1, C, S, rfl, rfl, h1, h2⟩ := hI
        rw [va_up_self] at hc
        exact ⟨hG1, C, S, rfl, rfl, lt_s h1 hc, h2⟩
      · intro v a cm' sh' lk' bs' ch' cd' hI hv hc
        obtain ⟨hG1, C, S, rfl, rfl, h1, h2⟩ := hI
        refine (cs_arrive_G l D hG1 z v hz hv hc).mono (fun r w' hq => ?_)
        obtain ⟨k, S1, lk1, bs1, ch1, cd1, rfl, hk, hG2, hcnt, rfl⟩ := hq
        rw [va_up_self] at hG2 hcnt
        rw [bx_uu, bx_uu] at hG2
        refine ⟨k, _, _, lk1, bs1, ch1, cd1, rfl, ⟨hG2, C ||| cs_l v, S1, rfl, rfl, lt_s (fun j hj => cs_x_add_t (by omega) (h1 j hj)) (cs_x_add_v (by omega)), by omega⟩, ?_⟩
        rw [va_up_self, bx_uu, bx_uu]
      · exact ⟨hJ.1, cm z, sh z, (cs_up_same cm z).symm, (cs_up_same sh z).symm, fun j hj => absurd hj (by omega), rfl⟩
      · intro a cm' sh' lk' bs' ch' cd' hI
        obtain ⟨hG1, C, S, rfl, rfl, h1, h2⟩ := hI
        exact ⟨a, C, S, lk', bs', ch', cd', rfl, hG1, h1, h2, rfl⟩
    · obtain ⟨a, C, S, lk1, bs1, ch1, cd1, rfl, hG1, hC, hcnt, rfl⟩ := h1
      have hCz := hG1.2.2.2 z hz
      rw [va_up_self, va_up_self] at hCz
      have hS1 : ∀ w, cs_x S w = true → w < n := fun w hw => hCz.1 w ((hCz.2.1 w).mp hw).1
      have hY : ∀ i, i < n → (cs_x S i = true ↔ ∀ b, b < n → nd (i * 40 + b) = true → cs_x S b = true) := by
        intro i hi
        rw [hCz.2.1 i]
        constructor
        · intro q b hb hd
          exact q.2 b (by rw [← hJ.2.2.2.2.1 i b hi (by omega)]; exact hd)
        · intro q
          refine ⟨hC i hi, fun b hd => ?_⟩
          have hbi := hJ.1.2.2.1 i b hi hd
          exact q b (by omega) (by rw [hJ.2.2.2.2.1 i b hi (by omega)]; exact hd)
      refine ⟨_, cm_deliverAll_2 l D z hz hn (cs_x (sh z)) (cs_J_V hJ hz) (cs_J_nd hJ) (cs_x S) hY, fun r2 w2 h2 => ?_⟩
      obtain ⟨rfl, cm1, sh1, g0, g1, rfl⟩ := h2
      have a1 := cs_n_to (f := cs_x S) hn (cs_ff hS1)
      have a2 := cs_n_to (f := cs_x (sh z)) hn (cs_ff (fun w hw => cs_J_S hJ hz hw))
      refine ⟨?_, n, ky, vl, sp, dp, _, _, lk1, bs1, pl, ss, st, ch1, cd1, nd, cm1, hs, sh1, rfl, rfl, cs_J_all hJ hz hG1 hC g0 g1⟩
      rw [pk_sub (by omega)]
      congr 1
      omega

set_option maxHeartbeats 4000000 in
theorem cp_write (l : Launch) (D : va_G) {ad : Nat → Nat} {cI cJ : ClassId} {ad2 : Nat → Nat} {cI2 cZ : ClassId} {n : Nat} {ky : Nat → Nat} {vl sp : Nat → Int32} {dp cm sh : Nat → Int64} {lk : Nat → Int32} {bs : Nat → Option Nat} {pl : Nat → Nat} {ss : Nat → Int64} {st : Nat → Int32} {ch : Nat → Nat} {cd : Nat} {nd cmM hs shM : Nat → Bool} (hJ : cs_J n ky sp dp cm sh lk bs pl ss st nd cmM hs) (p0 p1 p2 : Int32) : cs_Pair l D ad cI cJ ad2 cI2 cZ yX0_write (ws_ yX0_write cX0_write 5 (some .int)) ({ frames := 3, cells := 0, slots := 0, locals := 71 }) yX1_write (ws_ yX1_write cX1_write 6 (some .int)) ({ frames := 3, cells := 0, slots := 0, locals := 71 }) [.int p0, .int p1, .int p2] (cs_wX ad cI cJ n ky vl sp dp cm sh lk bs pl ss st ch cd) (cs_wM ad2 cI2 cZ n ky vl sp nd cmM hs pl shM) := by
  have hn := hJ.1.1
  rcases cs_k3 p0 with h | ⟨u, hu, rfl⟩
  · exact cs_pairRR hJ (cs_write_1 l D (cs_bad_t h)) (cm_write_1 l D (cs_bad_t h))
  · rcases cs_k6 p1 with h | ⟨k, hk, rfl⟩
    · exact cs_pairRR hJ (cs_write_2 l D u hu h) (cm_write_2 l D u hu (cs_nk_t h))
    · rcases Nat.lt_or_ge n 40 with hn4 | hn4
      · have hpl := hJ.2.1 u hu
        have hss : ∀ b, cs_x (ss u) b = true → b < n := fun b hb => hJ.2.2.1 u b hu hb
        have hGn := cs_G_new (k := k) (x := st u + 1) hJ.1 hn4 hk hss
        have hcn : cs_x (cm (pl u)) n = false := cs_ff (fun v hv => cs_J_C hJ hpl hv) n (Nat.le_refl n)
        have hX : cs_X n sp (fun b => hs (u * 40 + b)) (st u) := cs_X_congr (hJ.2.2.2.1 u hu) (fun b hb => hJ.2.2.2.2.2.2.2 u b hu (by omega))
        refine ⟨fun r w' => r = nI n ∧ ∃ (S : Int64) (lk1 : Nat → Int32) (bs1 : Nat → Option Nat) (ch1 : Nat → Nat) (cd1 : Nat), cs_G (n + 1) (va_up ky n k) (va_up sp n (st u + 1)) (va_up dp n (ss u)) (va_up cm (pl u) (cm (pl u) ||| cs_l n)) (va_up sh (pl u) S) lk1 bs1 ∧ w' = cs_wX ad cI cJ ((n + 1)) ((va_up ky n k)) ((va_up vl n p2)) ((va_up sp n (st u + 1))) ((va_up dp n (ss u))) ((va_up cm (pl u) (cm (pl u) ||| cs_l n))) ((va_up sh (pl u) S)) lk1 bs1 pl ((va_up ss u (ss u ||| cs_l n))) ((cs_su st u ((va_up sp n (st u + 1)) n))) ch1 cd1, cs_write_4 l D u k hu hk hn4 hpl _ _ (cs_arrive_G l D hGn (pl u) n hpl (by omega) hcn) (fun r w' hq => ?_), fun r1 w1 h1 => ?_⟩
        · obtain ⟨k1, S, lk1, bs1, ch1, cd1, rfl, hk1, hG1, hcnt, rfl⟩ := hq
          exact ⟨_, _, lk1, bs1, ch1, cd1, rfl, rfl, S, lk1, bs1, ch1, cd1, hG1, rfl⟩
        · obtain ⟨rfl, S, lk1, bs1, ch1, cd1, hG1, rfl⟩ := h1
          refine ⟨_, cm_write_4 l D u k hu hk hn4 hpl (st u) hX, fun r2 w2 h2 => ?_⟩
          obtain ⟨rfl, nd1, g0, g1, rfl⟩ := h2
          have hc1 : ∀ z v, z < 3 → v < 40 → (va_up cmM (pl u * 40 + n) true) (z * 40 + v) = cs_x ((va_up cm (pl u) (cm (pl u) ||| cs_l n)) z) v := by
            intro z v hz hv
            by_cases q : z = pl u
            · subst q
              rw [va_up_self]
              by_cases q2 : v = n
              · rw [q2, va_up_self, cs_x_add_v (by omega)]
              · rw [va_up_ne _ _ (by omega), cs_x_add_n (by omega) q2]
                exact hJ.2.2.2.2.2.2.1 _ v hpl hv
            · rw [va_up_ne _ _ q, va_up_ne _ _ (by omega)]
              exact hJ.2.2.2.2.2.2.1 z v hz hv
          have hJ1 := cs_J_new hJ hn4 hu hG1 g0 g1 hc1
          exact ⟨rfl, n + 1, _, _, _, _, _, _, lk1, bs1, pl, _, _, ch1, cd1, nd1, _, _, shM, rfl, rfl, cs_J_see hJ1 hu (by omega)⟩
      · have h40 : n = 40 := by omega
        exact cs_pairRR hJ (cs_write_3 l D u k hu hk h40) (cm_write_3 l D u k hu hk h40)
end
section
theorem cs_K_int {D : va_G} {cl : List vw_C} {tys : List (ClassId × FieldType)} {s : State} {a b : ClassId} (hK : va_K D cl tys s) (i j : Nat) (hi : tys[i]? = some (a, .int)) (hj : tys[j]? = some (b, .int)) : a = b := Option.some.inj ((hK.2 i _ hi).2.symm.trans (hK.2 j _ hj).2)
theorem cs_K_long {D : va_G} {cl : List vw_C} {tys : List (ClassId × FieldType)} {s : State} {a b : ClassId} (hK : va_K D cl tys s) (i j : Nat) (hi : tys[i]? = some (a, .long)) (hj : tys[j]? = some (b, .long)) : a = b := Option.some.inj ((hK.2 i _ hi).2.symm.trans (hK.2 j _ hj).2)
theorem cs_K_boolean {D : va_G} {cl : List vw_C} {tys : List (ClassId × FieldType)} {s : State} {a b : ClassId} (hK : va_K D cl tys s) (i j : Nat) (hi : tys[i]? = some (a, .boolean)) (hj : tys[j]? = some (b, .boolean)) : a = b := Option.some.inj ((hK.2 i _ hi).2.symm.trans (hK.2 j _ hj).2)
/-- the places at the start -/
def cs_pl : Nat → Nat → Nat
  | 0 => fun _ => 0
  | k + 1 => va_up (cs_pl k) k k

set_option maxHeartbeats 4000000 in
set_option maxRecDepth 100000 in
theorem cs_initX_best {p : Program} {l : Launch} {e : Env} {R : Room} {s : State} {m : MethodId} {args : Array Value} {below : List Frame} {meth : Method} {c : Code} {Q : State → Prop} {D : va_G} {A : Nat → Prop} {H0 : Heap} (hx : p.tables.exec = Jvm.exec) (hb : c.code = cX0_init) (hml : c.maxLocals = 2) (hown : s.vm.findClass RX0 = some m.cls) (hts : ∀ w ∈ lw_all, w.before args s = true) (hA : ∀ q : Nat, H0.size ≤ q → A q) (hR : 0 ≤ R.frames ∧ 0 ≤ R.locals) {ad : Nat → Nat} {cI cJ : ClassId} (hK : va_K D vwCl (cs_tX cI cJ) s) {cells slots : Nat} {n : Nat} {ky : Nat → Nat} {vl : Nat → Int32} {sp : Nat → Int32} {dp : Nat → Int64} {cm : Nat → Int64} {sh : Nat → Int64} {lk : Nat → Int32} {pl : Nat → Nat} {ss : Nat → Int64} {st : Nat → Int32} {ch : Nat → Nat} {cd : Nat} (hend : ∀ x : Nat → Option Nat, (∀ a, a < 18 → x a = none) → ∀ (H : Heap) (locs : List Loc), va_P D vwCl (cs_wX ad cI cJ n ky vl sp dp cm sh lk x pl ss st ch cd) H → va_D A (cs_wX ad cI cJ n ky vl sp dp cm sh lk x pl ss st ch cd) → va_S A H0 H locs → ∀ ls : Array Slot, lv_has ls 2 [(0, .ref (ad 0)), (1, .int (nI 18))] → W p l e R s m args below meth c H locs cells slots Q (F0 m 117 ls [])) :
    ∀ (j i : Nat), i + j = 18 → ∀ x : Nat → Option Nat, (∀ a, a < i → x a = none) → ∀ (H : Heap) (locs : List Loc), va_P D vwCl (cs_wX ad cI cJ n ky vl sp dp cm sh lk x pl ss st ch cd) H → va_D A (cs_wX ad cI cJ n ky vl sp dp cm sh lk x pl ss st ch cd) → va_S A H0 H locs → ∀ ls : Array Slot, lv_has ls 2 [(0, .ref (ad 0)), (1, .int (nI i))] → W p l e R s m args below meth c H locs cells slots Q (F0 m 97 ls []) := by
  intro j
  induction j with
  | zero =>
    intro i hi x hv H locs hP hD hS ls hl
    refine lv_iload_n hx hb dX0_init_97 rfl (lv_at hl 1 rfl) ?_
    refine lv_bipush (v := nI 18) hx hb dX0_init_98 (by decide) ?_
    refine cs_jge (tgt := 117) hx hb dX0_init_100 (by decide) (by omega) (by omega) (fun h => ?_) (fun h => absurd h (by omega))
    have hi : i = 18 := by omega
    subst hi
    exact hend x hv H locs hP hD hS ls hl
  | succ j ih =>
    intro i hi x hv H locs hP hD hS ls hl
    refine lv_iload_n hx hb dX0_init_97 rfl (lv_at hl 1 rfl) ?_
    refine lv_bipush (v := nI 18) hx hb dX0_init_98 (by decide) ?_
    refine cs_jge (tgt := 117) hx hb dX0_init_100 (by decide) (by omega) (by omega) (fun h => absurd h (by omega)) (fun h => ?_)
    refine lv_aload_n hx hb dX0_init_103 rfl (lv_at hl 0 rfl) ?_
    refine va_get (D := D) (ci := 0) (v := .ref (ad 8)) (C := RX0) (T := TX0) (N := 14) hx hb hts in_X0 hown hK hP 0 rfl rfl 8 (by decide) (hts _ q30) (fun _ h9 => h9) rfl dX0_init_104 ?_
    refine lv_iload_n hx hb dX0_init_107 rfl (lv_at hl 1 rfl) ?_
    refine lv_bipush (v := cs_o none) hx hb dX0_init_108 (by decide) ?_
    refine cs_iastO (f := x) (k := i) (x := none) hx hb hK hP hD hS 8 0 rfl rfl (by omega) (by decide) dX0_init_110 (fun H locs hP hD hS => ?_)
    have hP : va_P D vwCl (cs_wX ad cI cJ n ky vl sp dp cm sh lk (va_up x i none) pl ss st ch cd) H := hP
    have hD : va_D A (cs_wX ad cI cJ n ky vl sp dp cm sh lk (va_up x i none) pl ss st ch cd) := hD
    refine lv_iinc (v := nI (i + 1)) (lv' := [(1, .int (nI (i + 1))), (0, .ref (ad 0))]) hx hb dX0_init_111 hl (k := 1) rfl (cs_inc _) (by decide) rfl (fun ls hl => ?_)
    refine lv_goto (tgt := 97) hx hb dX0_init_114 (by decide) ?_
    exact ih (i + 1) (by omega) _ (lt_s (fun a ha => by rw [va_up_ne _ _ (by omega)]; exact hv a ha) (va_up_self _ _ _)) H locs hP hD hS ls (lv_sub hl [1, 0] rfl)

set_option maxHeartbeats 4000000 in
set_option maxRecDepth 100000 in
theorem cs_initX_place {p : Program} {l : Launch} {e : Env} {R : Room} {s : State} {m : MethodId} {args : Array Value} {below : List Frame} {meth : Method} {c : Code} {Q : State → Prop} {D : va_G} {A : Nat → Prop} {H0 : Heap} (hx : p.tables.exec = Jvm.exec) (hb : c.code = cX0_init) (hml : c.maxLocals = 2) (hown : s.vm.findClass RX0 = some m.cls) (hts : ∀ w ∈ lw_all, w.before args s = true) (hA : ∀ q : Nat, H0.size ≤ q → A q) (hR : 0 ≤ R.frames ∧ 0 ≤ R.locals) {ad : Nat → Nat} {cI cJ : ClassId} (hK : va_K D vwCl (cs_tX cI cJ) s) {cells slots : Nat} {n : Nat} {ky : Nat → Nat} {vl : Nat → Int32} {sp : Nat → Int32} {dp : Nat → Int64} {cm : Nat → Int64} {sh : Nat → Int64} {lk : Nat → Int32} {bs : Nat → Option Nat} {ss : Nat → Int64} {st : Nat → Int32} {ch : Nat → Nat} {cd : Nat} (hend : ∀ x : Nat → Nat, x = cs_pl 3 → ∀ (H : Heap) (locs : List Loc), va_P D vwCl (cs_wX ad cI cJ n ky vl sp dp cm sh lk bs x ss st ch cd) H → va_D A (cs_wX ad cI cJ n ky vl sp dp cm sh lk bs x ss st ch cd) → va_S A H0 H locs → ∀ ls : Array Slot, lv_has ls 2 [(0, .ref (ad 0)), (1, .int (nI 3))] → W p l e R s m args below meth c H locs cells slots Q (F0 m 137 ls [])) :
    ∀ (j i : Nat), i + j = 3 → ∀ x : Nat → Nat, x = cs_pl i → ∀ (H : Heap) (locs : List Loc), va_P D vwCl (cs_wX ad cI cJ n ky vl sp dp cm sh lk bs x ss st ch cd) H → va_D A (cs_wX ad cI cJ n ky vl sp dp cm sh lk bs x ss st ch cd) → va_S A H0 H locs → ∀ ls : Array Slot, lv_has ls 2 [(0, .ref (ad 0)), (1, .int (nI i))] → W p l e R s m args below meth c H locs cells slots Q (F0 m 119 ls []) := by
  intro j
  induction j with
  | zero =>
    intro i hi x hv H locs hP hD hS ls hl
    refine lv_iload_n hx hb dX0_init_119 rfl (lv_at hl 1 rfl) ?_
    refine lv_iconst (v := nI 3) hx hb dX0_init_120 (by decide) ?_
    refine cs_jge (tgt := 137) hx hb dX0_init_121 (by decide) (by omega) (by omega) (fun h => ?_) (fun h => absurd h (by omega))
    have hi : i = 3 := by omega
    subst hi
    exact hend x hv H locs hP hD hS ls hl
  | succ j ih =>
    intro i hi x hv H locs hP hD hS ls hl
    refine lv_iload_n hx hb dX0_init_119 rfl (lv_at hl 1 rfl) ?_
    refine lv_iconst (v := nI 3) hx hb dX0_init_120 (by decide) ?_
    refine cs_jge (tgt := 137) hx hb dX0_init_121 (by decide) (by omega) (by omega) (fun h => absurd h (by omega)) (fun h => ?_)
    refine lv_aload_n hx hb dX0_init_124 rfl (lv_at hl 0 rfl) ?_
    refine va_get (D := D) (ci := 0) (v := .ref (ad 9)) (C := RX0) (T := TX0) (N := 14) hx hb hts in_X0 hown hK hP 0 rfl rfl 9 (by decide) (hts _ q31) (fun _ h9 => h9) rfl dX0_init_125 ?_
    refine lv_iload_n hx hb dX0_init_128 rfl (lv_at hl 1 rfl) ?_
    refine lv_iload_n hx hb dX0_init_129 rfl (lv_at hl 1 rfl) ?_
    refine cs_iastN (f := x) (k := i) (x := i) hx hb hK hP hD hS 9 0 rfl rfl (by omega) (by decide) dX0_init_130 (fun H locs hP hD hS => ?_)
    have hP : va_P D vwCl (cs_wX ad cI cJ n ky vl sp dp cm sh lk bs (va_up x i i) ss st ch cd) H := hP
    have hD : va_D A (cs_wX ad cI cJ n ky vl sp dp cm sh lk bs (va_up x i i) ss st ch cd) := hD
    refine lv_iinc (v := nI (i + 1)) (lv' := [(1, .int (nI (i + 1))), (0, .ref (ad 0))]) hx hb dX0_init_131 hl (k := 1) rfl (cs_inc _) (by decide) rfl (fun ls hl => ?_)
    refine lv_goto (tgt := 119) hx hb dX0_init_134 (by decide) ?_
    exact ih (i + 1) (by omega) _ (by rw [hv]; rfl) H locs hP hD hS ls (lv_sub hl [1, 0] rfl)

set_option maxHeartbeats 4000000 in
set_option maxRecDepth 100000 in
theorem cs_initM_place {p : Program} {l : Launch} {e : Env} {R : Room} {s : State} {m : MethodId} {args : Array Value} {below : List Frame} {meth : Method} {c : Code} {Q : State → Prop} {D : va_G} {A : Nat → Prop} {H0 : Heap} (hx : p.tables.exec = Jvm.exec) (hb : c.code = cX1_init) (hml : c.maxLocals = 2) (hown : s.vm.findClass RX1 = some m.cls) (hts : ∀ w ∈ lw_all, w.before args s = true) (hA : ∀ q : Nat, H0.size ≤ q → A q) (hR : 0 ≤ R.frames ∧ 0 ≤ R.locals) {ad : Nat → Nat} {cI cZ : ClassId} (hK : va_K D vwCl (cs_tM cI cZ) s) {cells slots : Nat} {n : Nat} {ky : Nat → Nat} {vl : Nat → Int32} {sp : Nat → Int32} {nd : Nat → Bool} {cm : Nat → Bool} {hs : Nat → Bool} {sh : Nat → Bool} (hend : ∀ x : Nat → Nat, x = cs_pl 3 → ∀ (H : Heap) (locs : List Loc), va_P D vwCl (cs_wM ad cI cZ n ky vl sp nd cm hs x sh) H → va_D A (cs_wM ad cI cZ n ky vl sp nd cm hs x sh) → va_S A H0 H locs → ∀ ls : Array Slot, lv_has ls 2 [(0, .ref (ad 0)), (1, .int (nI 3))] → W p l e R s m args below meth c H locs cells slots Q (F0 m 88 ls [])) :
    ∀ (j i : Nat), i + j = 3 → ∀ x : Nat → Nat, x = cs_pl i → ∀ (H : Heap) (locs : List Loc), va_P D vwCl (cs_wM ad cI cZ n ky vl sp nd cm hs x sh) H → va_D A (cs_wM ad cI cZ n ky vl sp nd cm hs x sh) → va_S A H0 H locs → ∀ ls : Array Slot, lv_has ls 2 [(0, .ref (ad 0)), (1, .int (nI i))] → W p l e R s m args below meth c H locs cells slots Q (F0 m 70 ls []) := by
  intro j
  induction j with
  | zero =>
    intro i hi x hv H locs hP hD hS ls hl
    refine lv_iload_n hx hb dX1_init_70 rfl (lv_at hl 1 rfl) ?_
    refine lv_iconst (v := nI 3) hx hb dX1_init_71 (by decide) ?_
    refine cs_jge (tgt := 88) hx hb dX1_init_72 (by decide) (by omega) (by omega) (fun h => ?_) (fun h => absurd h (by omega))
    have hi : i = 3 := by omega
    subst hi
    exact hend x hv H locs hP hD hS ls hl
  | succ j ih =>
    intro i hi x hv H locs hP hD hS ls hl
    refine lv_iload_n hx hb dX1_init_70 rfl (lv_at hl 1 rfl) ?_
    refine lv_iconst (v := nI 3) hx hb dX1_init_71 (by decide) ?_
    refine cs_jge (tgt := 88) hx hb dX1_init_72 (by decide) (by omega) (by omega) (fun h => absurd h (by omega)) (fun h => ?_)
    refine lv_aload_n hx hb dX1_init_75 rfl (lv_at hl 0 rfl) ?_
    refine va_get (D := D) (ci := 1) (v := .ref (ad 7)) (C := RX1) (T := TX1) (N := 9) hx hb hts in_X1 hown hK hP 0 rfl rfl 7 (by decide) (hts _ q169) (fun _ h9 => h9) rfl dX1_init_76 ?_
    refine lv_iload_n hx hb dX1_init_79 rfl (lv_at hl 1 rfl) ?_
    refine lv_iload_n hx hb dX1_init_80 rfl (lv_at hl 1 rfl) ?_
    refine cs_iastN (f := x) (k := i) (x := i) hx hb hK hP hD hS 7 0 rfl rfl (by omega) (by decide) dX1_init_81 (fun H locs hP hD hS => ?_)
    have hP : va_P D vwCl (cs_wM ad cI cZ n ky vl sp nd cm hs (va_up x i i) sh) H := hP
    have hD : va_D A (cs_wM ad cI cZ n ky vl sp nd cm hs (va_up x i i) sh) := hD
    refine lv_iinc (v := nI (i + 1)) (lv' := [(1, .int (nI (i + 1))), (0, .ref (ad 0))]) hx hb dX1_init_82 hl (k := 1) rfl (cs_inc _) (by decide) rfl (fun ls hl => ?_)
    refine lv_goto (tgt := 70) hx hb dX1_init_85 (by decide) ?_
    exact ih (i + 1) (by omega) _ (by rw [hv]; rfl) H locs hP hD hS ls (lv_sub hl [1, 0] rfl)

set_option maxHeartbeats 4000000 in
set_option maxRecDepth 100000 in
theorem cs_initX (l : Launch) (D : va_G) (h0 sz : Nat) : Met l yX0_init (ws_ yX0_init cX0_init 2 none) ({ frames := 1, cells := 12, slots := 353, locals := 12 }) (va_Pc [.ref h0] (fun U => U.heap.size = sz ∧ va_P D vwCl [(h0, .inr (0, [.int (nI 0), .null, .null, .null, .null, .null, .null, .null, .null, .null, .null, .null, .null, .int (nI 0)]))] U.heap ∧ va_K D vwCl [] U ∧ va_D (fun _ => True) [(h0, .inr (0, [.int (nI 0), .null, .null, .null, .null, .null, .null, .null, .null, .null, .null, .null, .null, .int (nI 0)]))])) (va_Qv (fun u : ((Nat → Nat) × ClassId × ClassId × (Nat → Option Nat)) => u.1 0 = h0 ∧ ∀ q, q < 18 → u.2.2.2 q = none) (fun (u : ((Nat → Nat) × ClassId × ClassId × (Nat → Option Nat))) t => va_P D vwCl (cs_wX u.1 u.2.1 u.2.2.1 0 ((fun _ => 0)) ((fun _ => 0)) ((fun _ => 0)) ((fun _ => 0)) ((fun _ => 0)) ((fun _ => 0)) ((fun _ => 0)) u.2.2.2 ((cs_pl 3)) ((fun _ => 0)) ((fun _ => 0)) ((fun _ => 0)) 0) t.heap ∧ va_K D vwCl (cs_tX u.2.1 u.2.2.1) t ∧ va_D (va_A [(h0, .inr (0, [.int (nI 0), .null, .null, .null, .null, .null, .null, .null, .null, .null, .null, .null, .null, .int (nI 0)]))] sz) (cs_wX u.1 u.2.1 u.2.2.1 0 ((fun _ => 0)) ((fun _ => 0)) ((fun _ => 0)) ((fun _ => 0)) ((fun _ => 0)) ((fun _ => 0)) ((fun _ => 0)) u.2.2.2 ((cs_pl 3)) ((fun _ => 0)) ((fun _ => 0)) ((fun _ => 0)) 0)) (va_A [(h0, .inr (0, [.int (nI 0), .null, .null, .null, .null, .null, .null, .null, .null, .null, .null, .null, .null, .int (nI 0)]))] sz)) 12 353 (va_A [(h0, .inr (0, [.int (nI 0), .null, .null, .null, .null, .null, .null, .null, .null, .null, .null, .null, .null, .int (nI 0)]))] sz) := by
  refine Met.ofW (cc := cX0_init) (maxL := 2) (ret := none) (by decide) rfl ?_
  intro p e s m args below meth c s₁ B hml hv9
  obtain ⟨rfl, hsz, hP, hK, hD0⟩ := hv9
  have hx := B.exec
  have hb := B.bytes
  have hr := B.returns
  have hts := atoms_spec (ws := (ws_ yX0_init cX0_init 2 none)) B.pre
  have hts : ∀ w ∈ lw_all, w.before _ s = true := fun w h => hts w (List.mem_cons_of_mem _ h)
  have hown : s.vm.findClass RX0 = some m.cls := findClass_of_methodNamed B.named
  have hlocks := B.notSynchronized
  have hin : meth.name = "<init>" := (name_of_methodNamed B.named B.method).1
  subst hsz
  have hD := hD0.self (sz := s.heap.size)
  generalize hAe : va_A [(h0, .inr (0, [.int (nI 0), .null, .null, .null, .null, .null, .null, .null, .null, .null, .null, .null, .null, .int (nI 0)]))] s.heap.size = A at hD ⊢
  have hA : ∀ q : Nat, s.heap.size ≤ q → A q := fun q h => by rw [← hAe]; exact Or.inr h
  have hS : va_S A s.heap s.heap [] := va_S.rf
  have hP : va_P D vwCl [(h0, .inr (0, [.int (nI 0), .null, .null, .null, .null, .null, .null, .null, .null, .null, .null, .null, .null, .int (nI 0)]))] s.heap := hP
  have hl := lv_entry ([.ref h0]) (n := 2) (Nat.le_of_ble_eq_true rfl)
  rw [lg_entry_eq]
  generalize (lg_sl ([.ref h0]) ++ List.replicate (2 - (lg_sl ([.ref h0])).length) Slot.unset).toArray = ls at hl ⊢
  have hl : lv_has ls 2 [(0, .ref h0)] := hl
  refine lv_aload_n hx hb dX0_init_0 rfl (lv_at hl 0 rfl) ?_
  refine W.objInit hx hb hown (hts _ q19) (hts _ q20) (hts _ q21) rfl (by rw [hml]; exact hl.1) rfl dX0_init_1 (Nat.le_of_ble_eq_true rfl) (Nat.le_of_ble_eq_true rfl) ?_
  refine W.eq (g2 := F0 m 4 ls []) rfl ?_
  refine lv_aload_n hx hb dX0_init_4 rfl (lv_at hl 0 rfl) ?_
  refine lv_bipush (v := nI 40) hx hb dX0_init_5 (by decide) ?_
  refine va_newa (atype := .int) (ty := .int) (a0 := (40, .inl (fun j => nI ((fun _ => 0) j)))) (N' := 40) hx hb (hts _ q65) rfl hK hP hD hS hA (fun _ => rfl) (by decide) (by decide) (by decide) (Nat.le_of_ble_eq_true rfl) (Nat.le_of_ble_eq_true rfl) dX0_init_7 (fun q1 cI H hK hP hD hS => ?_)
  have hP : va_P D vwCl [(h0, .inr (0, [.int (nI 0), .null, .null, .null, .null, .null, .null, .null, .null, .null, .null, .null, .null, .int (nI 0)])), (q1, .inl (cI, 40, .inl (fun j => nI ((fun _ => 0) j))))] H := hP
  have hD : va_D A [(h0, .inr (0, [.int (nI 0), .null, .null, .null, .null, .null, .null, .null, .null, .null, .null, .null, .null, .int (nI 0)])), (q1, .inl (cI, 40, .inl (fun j => nI ((fun _ => 0) j))))] := hD
  refine va_putF (D := D) (ci := 0) (v := .ref q1) (ty := .array .int) (C := RX0) (T := TX0) (N := 14) hx hb hts in_X0 tyX0 tyX0_ok nmX0 hown hK hP hD hS 0 rfl rfl 1 (by decide) (hts _ q23) (fun _ h9 => h9) rfl hin rfl (by decide +kernel) rfl rfl (Nat.le_of_ble_eq_true rfl) dX0_init_9 (fun H locs hP hD hS => ?_)
  have hP : va_P D vwCl [(h0, .inr (0, [.int (nI 0), .ref q1, .null, .null, .null, .null, .null, .null, .null, .null, .null, .null, .null, .int (nI 0)])), (q1, .inl (cI, 40, .inl (fun j => nI ((fun _ => 0) j))))] H := hP
  have hD : va_D A [(h0, .inr (0, [.int (nI 0), .ref q1, .null, .null, .null, .null, .null, .null, .null, .null, .null, .null, .null, .int (nI 0)])), (q1, .inl (cI, 40, .inl (fun j => nI ((fun _ => 0) j))))] := hD
  refine lv_aload_n hx hb dX0_init_12 rfl (lv_at hl 0 rfl) ?_
  refine lv_bipush (v := nI 40) hx hb dX0_init_13 (by decide) ?_
  refine va_newa (atype := .int) (ty := .int) (a0 := (40, .inl (fun _ => 0))) (N' := 40) hx hb (hts _ q65) rfl hK hP hD hS hA (fun _ => rfl) (by decide) (by decide) (by decide) (Nat.le_of_ble_eq_true rfl) (Nat.le_of_ble_eq_true rfl) dX0_init_15 (fun q2 c9 H hK hP hD hS => ?_)
  have e9 := cs_K_int hK 0 1 rfl rfl
  subst e9
  have hK := hK.sub (tys' := [(cI, .int)]) [0] rfl
  have hP : va_P D vwCl [(h0, .inr (0, [.int (nI 0), .ref q1, .null, .null, .null, .null, .null, .null, .null, .null, .null, .null, .null, .int (nI 0)])), (q1, .inl (cI, 40, .inl (fun j => nI ((fun _ => 0) j)))), (q2, .inl (cI, 40, .inl (fun _ => 0)))] H := hP
  have hD : va_D A [(h0, .inr (0, [.int (nI 0), .ref q1, .null, .null, .null, .null, .null, .null, .null, .null, .null, .null, .null, .int (nI 0)])), (q1, .inl (cI, 40, .inl (fun j => nI ((fun _ => 0) j)))), (q2, .inl (cI, 40, .inl (fun _ => 0)))] := hD
  refine va_putF (D := D) (ci := 0) (v := .ref q2) (ty := .array .int) (C := RX0) (T := TX0) (N := 14) hx hb hts in_X0 tyX0 tyX0_ok nmX0 hown hK hP hD hS 0 rfl rfl 2 (by decide) (hts _ q24) (fun _ h9 => h9) rfl hin rfl (by decide +kernel) rfl rfl (Nat.le_of_ble_eq_true rfl) dX0_init_17 (fun H locs hP hD hS => ?_)
  have hP : va_P D vwCl [(h0, .inr (0, [.int (nI 0), .ref q1, .ref q2, .null, .null, .null, .null, .null, .null, .null, .null, .null, .null, .int (nI 0)])), (q1, .inl (cI, 40, .inl (fun j => nI ((fun _ => 0) j)))), (q2, .inl (cI, 40, .inl (fun _ => 0)))] H := hP
  have hD : va_D A [(h0, .inr (0, [.int (nI 0), .ref q1, .ref q2, .null, .null, .null, .null, .null, .null, .null, .null, .null, .null, .int (nI 0)])), (q1, .inl (cI, 40, .inl (fun j => nI ((fun _ => 0) j)))), (q2, .inl (cI, 40, .inl (fun _ => 0)))] := hD
  refine lv_aload_n hx hb dX0_init_20 rfl (lv_at hl 0 rfl) ?_
  refine lv_bipush (v := nI 40) hx hb dX0_init_21 (by decide) ?_
  refine va_newa (atype := .int) (ty := .int) (a0 := (40, .inl (fun _ => 0))) (N' := 40) hx hb (hts _ q65) rfl hK hP hD hS hA (fun _ => rfl) (by decide) (by decide) (by decide) (Nat.le_of_ble_eq_true rfl) (Nat.le_of_ble_eq_true rfl) dX0_init_23 (fun q3 c9 H hK hP hD hS => ?_)
  have e9 := cs_K_int hK 0 1 rfl rfl
  subst e9
  have hK := hK.sub (tys' := [(cI, .int)]) [0] rfl
  have hP : va_P D vwCl [(h0, .inr (0, [.int (nI 0), .ref q1, .ref q2, .null, .null, .null, .null, .null, .null, .null, .null, .null, .null, .int (nI 0)])), (q1, .inl (cI, 40, .inl (fun j => nI ((fun _ => 0) j)))), (q2, .inl (cI, 40, .inl (fun _ => 0))), (q3, .inl (cI, 40, .inl (fun _ => 0)))] H := hP
  have hD : va_D A [(h0, .inr (0, [.int (nI 0), .ref q1, .ref q2, .null, .null, .null, .null, .null, .null, .null, .null, .null, .null, .int (nI 0)])), (q1, .inl (cI, 40, .inl (fun j => nI ((fun _ => 0) j)))), (q2, .inl (cI, 40, .inl (fun _ => 0))), (q3, .inl (cI, 40, .inl (fun _ => 0)))] := hD
  refine va_putF (D := D) (ci := 0) (v := .ref q3) (ty := .array .int) (C := RX0) (T := TX0) (N := 14) hx hb hts in_X0 tyX0 tyX0_ok nmX0 hown hK hP hD hS 0 rfl rfl 3 (by decide) (hts _ q25) (fun _ h9 => h9) rfl hin rfl (by decide +kernel) rfl rfl (Nat.le_of_ble_eq_true rfl) dX0_init_25 (fun H locs hP hD hS => ?_)
  have hP : va_P D vwCl [(h0, .inr (0, [.int (nI 0), .ref q1, .ref q2, .ref q3, .null, .null, .null, .null, .null, .null, .null, .null, .null, .int (nI 0)])), (q1, .inl (cI, 40, .inl (fun j => nI ((fun _ => 0) j)))), (q2, .inl (cI, 40, .inl (fun _ => 0))), (q3, .inl (cI, 40, .inl (fun _ => 0)))] H := hP
  have hD : va_D A [(h0, .inr (0, [.int (nI 0), .ref q1, .ref q2, .ref q3, .null, .null, .null, .null, .null, .null, .null, .null, .null, .int (nI 0)])), (q1, .inl (cI, 40, .inl (fun j => nI ((fun _ => 0) j)))), (q2, .inl (cI, 40, .inl (fun _ => 0))), (q3, .inl (cI, 40, .inl (fun _ => 0)))] := hD
  refine lv_aload_n hx hb dX0_init_28 rfl (lv_at hl 0 rfl) ?_
  refine lv_bipush (v := nI 40) hx hb dX0_init_29 (by decide) ?_
  refine va_newa (atype := .long) (ty := .long) (a0 := (40, .inr (.inl (fun _ => 0)))) (N' := 40) hx hb (hts _ q66) rfl hK hP hD hS hA (fun _ => rfl) (by decide) (by decide) (by decide) (Nat.le_of_ble_eq_true rfl) (Nat.le_of_ble_eq_true rfl) dX0_init_31 (fun q4 cJ H hK hP hD hS => ?_)
  have hP : va_P D vwCl [(h0, .inr (0, [.int (nI 0), .ref q1, .ref q2, .ref q3, .null, .null, .null, .null, .null, .null, .null, .null, .null, .int (nI 0)])), (q1, .inl (cI, 40, .inl (fun j => nI ((fun _ => 0) j)))), (q2, .inl (cI, 40, .inl (fun _ => 0))), (q3, .inl (cI, 40, .inl (fun _ => 0))), (q4, .inl (cJ, 40, .inr (.inl (fun _ => 0))))] H := hP
  have hD : va_D A [(h0, .inr (0, [.int (nI 0), .ref q1, .ref q2, .ref q3, .null, .null, .null, .null, .null, .null, .null, .null, .null, .int (nI 0)])), (q1, .inl (cI, 40, .inl (fun j => nI ((fun _ => 0) j)))), (q2, .inl (cI, 40, .inl (fun _ => 0))), (q3, .inl (cI, 40, .inl (fun _ => 0))), (q4, .inl (cJ, 40, .inr (.inl (fun _ => 0))))] := hD
  refine va_putF (D := D) (ci := 0) (v := .ref q4) (ty := .array .long) (C := RX0) (T := TX0) (N := 14) hx hb hts in_X0 tyX0 tyX0_ok nmX0 hown hK hP hD hS 0 rfl rfl 4 (by decide) (hts _ q26) (fun _ h9 => h9) rfl hin rfl (by decide +kernel) rfl rfl (Nat.le_of_ble_eq_true rfl) dX0_init_33 (fun H locs hP hD hS => ?_)
  have hP : va_P D vwCl [(h0, .inr (0, [.int (nI 0), .ref q1, .ref q2, .ref q3, .ref q4, .null, .null, .null, .null, .null, .null, .null, .null, .int (nI 0)])), (q1, .inl (cI, 40, .inl (fun j => nI ((fun _ => 0) j)))), (q2, .inl (cI, 40, .inl (fun _ => 0))), (q3, .inl (cI, 40, .inl (fun _ => 0))), (q4, .inl (cJ, 40, .inr (.inl (fun _ => 0))))] H := hP
  have hD : va_D A [(h0, .inr (0, [.int (nI 0), .ref q1, .ref q2, .ref q3, .ref q4, .null, .null, .null, .null, .null, .null, .null, .null, .int (nI 0)])), (q1, .inl (cI, 40, .inl (fun j => nI ((fun _ => 0) j)))), (q2, .inl (cI, 40, .inl (fun _ => 0))), (q3, .inl (cI, 40, .inl (fun _ => 0))), (q4, .inl (cJ, 40, .inr (.inl (fun _ => 0))))] := hD
  refine lv_aload_n hx hb dX0_init_36 rfl (lv_at hl 0 rfl) ?_
  refine lv_iconst (v := nI 3) hx hb dX0_init_37 (by decide) ?_
  refine va_newa (atype := .long) (ty := .long) (a0 := (3, .inr (.inl (fun _ => 0)))) (N' := 3) hx hb (hts _ q66) rfl hK hP hD hS hA (fun _ => rfl) (by decide) (by decide) (by decide) (Nat.le_of_ble_eq_true rfl) (Nat.le_of_ble_eq_true rfl) dX0_init_38 (fun q5 c9 H hK hP hD hS => ?_)
  have e9 := cs_K_long hK 1 2 rfl rfl
  subst e9
  have hK := hK.sub (tys' := [(cI, .int), (cJ, .long)]) [0, 1] rfl
  have hP : va_P D vwCl [(h0, .inr (0, [.int (nI 0), .ref q1, .ref q2, .ref q3, .ref q4, .null, .null, .null, .null, .null, .null, .null, .null, .int (nI 0)])), (q1, .inl (cI, 40, .inl (fun j => nI ((fun _ => 0) j)))), (q2, .inl (cI, 40, .inl (fun _ => 0))), (q3, .inl (cI, 40, .inl (fun _ => 0))), (q4, .inl (cJ, 40, .inr (.inl (fun _ => 0)))), (q5, .inl (cJ, 3, .inr (.inl (fun _ => 0))))] H := hP
  have hD : va_D A [(h0, .inr (0, [.int (nI 0), .ref q1, .ref q2, .ref q3, .ref q4, .null, .null, .null, .null, .null, .null, .null, .null, .int (nI 0)])), (q1, .inl (cI, 40, .inl (fun j => nI ((fun _ => 0) j)))), (q2, .inl (cI, 40, .inl (fun _ => 0))), (q3, .inl (cI, 40, .inl (fun _ => 0))), (q4, .inl (cJ, 40, .inr (.inl (fun _ => 0)))), (q5, .inl (cJ, 3, .inr (.inl (fun _ => 0))))] := hD
  refine va_putF (D := D) (ci := 0) (v := .ref q5) (ty := .array .long) (C := RX0) (T := TX0) (N := 14) hx hb hts in_X0 tyX0 tyX0_ok nmX0 hown hK hP hD hS 0 rfl rfl 5 (by decide) (hts _ q27) (fun _ h9 => h9) rfl hin rfl (by decide +kernel) rfl rfl (Nat.le_of_ble_eq_true rfl) dX0_init_40 (fun H locs hP hD hS => ?_)
  have hP : va_P D vwCl [(h0, .inr (0, [.int (nI 0), .ref q1, .ref q2, .ref q3, .ref q4, .ref q5, .null, .null, .null, .null, .null, .null, .null, .int (nI 0)])), (q1, .inl (cI, 40, .inl (fun j => nI ((fun _ => 0) j)))), (q2, .inl (cI, 40, .inl (fun _ => 0))), (q3, .inl (cI, 40, .inl (fun _ => 0))), (q4, .inl (cJ, 40, .inr (.inl (fun _ => 0)))), (q5, .inl (cJ, 3, .inr (.inl (fun _ => 0))))] H := hP
  have hD : va_D A [(h0, .inr (0, [.int (nI 0), .ref q1, .ref q2, .ref q3, .ref q4, .ref q5, .null, .null, .null, .null, .null, .null, .null, .int (nI 0)])), (q1, .inl (cI, 40, .inl (fun j => nI ((fun _ => 0) j)))), (q2, .inl (cI, 40, .inl (fun _ => 0))), (q3, .inl (cI, 40, .inl (fun _ => 0))), (q4, .inl (cJ, 40, .inr (.inl (fun _ => 0)))), (q5, .inl (cJ, 3, .inr (.inl (fun _ => 0))))] := hD
  refine lv_aload_n hx hb dX0_init_43 rfl (lv_at hl 0 rfl) ?_
  refine lv_iconst (v := nI 3) hx hb dX0_init_44 (by decide) ?_
  refine va_newa (atype := .long) (ty := .long) (a0 := (3, .inr (.inl (fun _ => 0)))) (N' := 3) hx hb (hts _ q66) rfl hK hP hD hS hA (fun _ => rfl) (by decide) (by decide) (by decide) (Nat.le_of_ble_eq_true rfl) (Nat.le_of_ble_eq_true rfl) dX0_init_45 (fun q6 c9 H hK hP hD hS => ?_)
  have e9 := cs_K_long hK 1 2 rfl rfl
  subst e9
  have hK := hK.sub (tys' := [(cI, .int), (cJ, .long)]) [0, 1] rfl
  have hP : va_P D vwCl [(h0, .inr (0, [.int (nI 0), .ref q1, .ref q2, .ref q3, .ref q4, .ref q5, .null, .null, .null, .null, .null, .null, .null, .int (nI 0)])), (q1, .inl (cI, 40, .inl (fun j => nI ((fun _ => 0) j)))), (q2, .inl (cI, 40, .inl (fun _ => 0))), (q3, .inl (cI, 40, .inl (fun _ => 0))), (q4, .inl (cJ, 40, .inr (.inl (fun _ => 0)))), (q5, .inl (cJ, 3, .inr (.inl (fun _ => 0)))), (q6, .inl (cJ, 3, .inr (.inl (fun _ => 0))))] H := hP
  have hD : va_D A [(h0, .inr (0, [.int (nI 0), .ref q1, .ref q2, .ref q3, .ref q4, .ref q5, .null, .null, .null, .null, .null, .null, .null, .int (nI 0)])), (q1, .inl (cI, 40, .inl (fun j => nI ((fun _ => 0) j)))), (q2, .inl (cI, 40, .inl (fun _ => 0))), (q3, .inl (cI, 40, .inl (fun _ => 0))), (q4, .inl (cJ, 40, .inr (.inl (fun _ => 0)))), (q5, .inl (cJ, 3, .inr (.inl (fun _ => 0)))), (q6, .inl (cJ, 3, .inr (.inl (fun _ => 0))))] := hD
  refine va_putF (D := D) (ci := 0) (v := .ref q6) (ty := .array .long) (C := RX0) (T := TX0) (N := 14) hx hb hts in_X0 tyX0 tyX0_ok nmX0 hown hK hP hD hS 0 rfl rfl 6 (by decide) (hts _ q28) (fun _ h9 => h9) rfl hin rfl (by decide +kernel) rfl rfl (Nat.le_of_ble_eq_true rfl) dX0_init_47 (fun H locs hP hD hS => ?_)
  have hP : va_P D vwCl [(h0, .inr (0, [.int (nI 0), .ref q1, .ref q2, .ref q3, .ref q4, .ref q5, .ref q6, .null, .null, .null, .null, .null, .null, .int (nI 0)])), (q1, .inl (cI, 40, .inl (fun j => nI ((fun _ => 0) j)))), (q2, .inl (cI, 40, .inl (fun _ => 0))), (q3, .inl (cI, 40, .inl (fun _ => 0))), (q4, .inl (cJ, 40, .inr (.inl (fun _ => 0)))), (q5, .inl (cJ, 3, .inr (.inl (fun _ => 0)))), (q6, .inl (cJ, 3, .inr (.inl (fun _ => 0))))] H := hP
  have hD : va_D A [(h0, .inr (0, [.int (nI 0), .ref q1, .ref q2, .ref q3, .ref q4, .ref q5, .ref q6, .null, .null, .null, .null, .null, .null, .int (nI 0)])), (q1, .inl (cI, 40, .inl (fun j => nI ((fun _ => 0) j)))), (q2, .inl (cI, 40, .inl (fun _ => 0))), (q3, .inl (cI, 40, .inl (fun _ => 0))), (q4, .inl (cJ, 40, .inr (.inl (fun _ => 0)))), (q5, .inl (cJ, 3, .inr (.inl (fun _ => 0)))), (q6, .inl (cJ, 3, .inr (.inl (fun _ => 0))))] := hD
  refine lv_aload_n hx hb dX0_init_50 rfl (lv_at hl 0 rfl) ?_
  refine lv_bipush (v := nI 120) hx hb dX0_init_51 (by decide) ?_
  refine va_newa (atype := .int) (ty := .int) (a0 := (120, .inl (fun _ => 0))) (N' := 120) hx hb (hts _ q65) rfl hK hP hD hS hA (fun _ => rfl) (by decide) (by decide) (by decide) (Nat.le_of_ble_eq_true rfl) (Nat.le_of_ble_eq_true rfl) dX0_init_53 (fun q7 c9 H hK hP hD hS => ?_)
  have e9 := cs_K_int hK 0 2 rfl rfl
  subst e9
  have hK := hK.sub (tys' := [(cI, .int), (cJ, .long)]) [0, 1] rfl
  have hP : va_P D vwCl [(h0, .inr (0, [.int (nI 0), .ref q1, .ref q2, .ref q3, .ref q4, .ref q5, .ref q6, .null, .null, .null, .null, .null, .null, .int (nI 0)])), (q1, .inl (cI, 40, .inl (fun j => nI ((fun _ => 0) j)))), (q2, .inl (cI, 40, .inl (fun _ => 0))), (q3, .inl (cI, 40, .inl (fun _ => 0))), (q4, .inl (cJ, 40, .inr (.inl (fun _ => 0)))), (q5, .inl (cJ, 3, .inr (.inl (fun _ => 0)))), (q6, .inl (cJ, 3, .inr (.inl (fun _ => 0)))), (q7, .inl (cI, 120, .inl (fun _ => 0)))] H := hP
  have hD : va_D A [(h0, .inr (0, [.int (nI 0), .ref q1, .ref q2, .ref q3, .ref q4, .ref q5, .ref q6, .null, .null, .null, .null, .null, .null, .int (nI 0)])), (q1, .inl (cI, 40, .inl (fun j => nI ((fun _ => 0) j)))), (q2, .inl (cI, 40, .inl (fun _ => 0))), (q3, .inl (cI, 40, .inl (fun _ => 0))), (q4, .inl (cJ, 40, .inr (.inl (fun _ => 0)))), (q5, .inl (cJ, 3, .inr (.inl (fun _ => 0)))), (q6, .inl (cJ, 3, .inr (.inl (fun _ => 0)))), (q7, .inl (cI, 120, .inl (fun _ => 0)))] := hD
  refine va_putF (D := D) (ci := 0) (v := .ref q7) (ty := .array .int) (C := RX0) (T := TX0) (N := 14) hx hb hts in_X0 tyX0 tyX0_ok nmX0 hown hK hP hD hS 0 rfl rfl 7 (by decide) (hts _ q29) (fun _ h9 => h9) rfl hin rfl (by decide +kernel) rfl rfl (Nat.le_of_ble_eq_true rfl) dX0_init_55 (fun H locs hP hD hS => ?_)
  have hP : va_P D vwCl [(h0, .inr (0, [.int (nI 0), .ref q1, .ref q2, .ref q3, .ref q4, .ref q5, .ref q6, .ref q7, .null, .null, .null, .null, .null, .int (nI 0)])), (q1, .inl (cI, 40, .inl (fun j => nI ((fun _ => 0) j)))), (q2, .inl (cI, 40, .inl (fun _ => 0))), (q3, .inl (cI, 40, .inl (fun _ => 0))), (q4, .inl (cJ, 40, .inr (.inl (fun _ => 0)))), (q5, .inl (cJ, 3, .inr (.inl (fun _ => 0)))), (q6, .inl (cJ, 3, .inr (.inl (fun _ => 0)))), (q7, .inl (cI, 120, .inl (fun _ => 0)))] H := hP
  have hD : va_D A [(h0, .inr (0, [.int (nI 0), .ref q1, .ref q2, .ref q3, .ref q4, .ref q5, .ref q6, .ref q7, .null, .null, .null, .null, .null, .int (nI 0)])), (q1, .inl (cI, 40, .inl (fun j => nI ((fun _ => 0) j)))), (q2, .inl (cI, 40, .inl (fun _ => 0))), (q3, .inl (cI, 40, .inl (fun _ => 0))), (q4, .inl (cJ, 40, .inr (.inl (fun _ => 0)))), (q5, .inl (cJ, 3, .inr (.inl (fun _ => 0)))), (q6, .inl (cJ, 3, .inr (.inl (fun _ => 0)))), (q7, .inl (cI, 120, .inl (fun _ => 0)))] := hD
  refine lv_aload_n hx hb dX0_init_58 rfl (lv_at hl 0 rfl) ?_
  refine lv_bipush (v := nI 18) hx hb dX0_init_59 (by decide) ?_
  refine va_newa (atype := .int) (ty := .int) (a0 := (18, .inl (fun j => cs_o ((fun _ => some 0) j)))) (N' := 18) hx hb (hts _ q65) rfl hK hP hD hS hA (fun _ => rfl) (by decide) (by decide) (by decide) (Nat.le_of_ble_eq_true rfl) (Nat.le_of_ble_eq_true rfl) dX0_init_61 (fun q8 c9 H hK hP hD hS => ?_)
  have e9 := cs_K_int hK 0 2 rfl rfl
  subst e9
  have hK := hK.sub (tys' := [(cI, .int), (cJ, .long)]) [0, 1] rfl
  have hP : va_P D vwCl [(h0, .inr (0, [.int (nI 0), .ref q1, .ref q2, .ref q3, .ref q4, .ref q5, .ref q6, .ref q7, .null, .null, .null, .null, .null, .int (nI 0)])), (q1, .inl (cI, 40, .inl (fun j => nI ((fun _ => 0) j)))), (q2, .inl (cI, 40, .inl (fun _ => 0))), (q3, .inl (cI, 40, .inl (fun _ => 0))), (q4, .inl (cJ, 40, .inr (.inl (fun _ => 0)))), (q5, .inl (cJ, 3, .inr (.inl (fun _ => 0)))), (q6, .inl (cJ, 3, .inr (.inl (fun _ => 0)))), (q7, .inl (cI, 120, .inl (fun _ => 0))), (q8, .inl (cI, 18, .inl (fun j => cs_o ((fun _ => some 0) j))))] H := hP
  have hD : va_D A [(h0, .inr (0, [.int (nI 0), .ref q1, .ref q2, .ref q3, .ref q4, .ref q5, .ref q6, .ref q7, .null, .null, .null, .null, .null, .int (nI 0)])), (q1, .inl (cI, 40, .inl (fun j => nI ((fun _ => 0) j)))), (q2, .inl (cI, 40, .inl (fun _ => 0))), (q3, .inl (cI, 40, .inl (fun _ => 0))), (q4, .inl (cJ, 40, .inr (.inl (fun _ => 0)))), (q5, .inl (cJ, 3, .inr (.inl (fun _ => 0)))), (q6, .inl (cJ, 3, .inr (.inl (fun _ => 0)))), (q7, .inl (cI, 120, .inl (fun _ => 0))), (q8, .inl (cI, 18, .inl (fun j => cs_o ((fun _ => some 0) j))))] := hD
  refine va_putF (D := D) (ci := 0) (v := .ref q8) (ty := .array .int) (C := RX0) (T := TX0) (N := 14) hx hb hts in_X0 tyX0 tyX0_ok nmX0 hown hK hP hD hS 0 rfl rfl 8 (by decide) (hts _ q30) (fun _ h9 => h9) rfl hin rfl (by decide +kernel) rfl rfl (Nat.le_of_ble_eq_true rfl) dX0_init_63 (fun H locs hP hD hS => ?_)
  have hP : va_P D vwCl [(h0, .inr (0, [.int (nI 0), .ref q1, .ref q2, .ref q3, .ref q4, .ref q5, .ref q6, .ref q7, .ref q8, .null, .null, .null, .null, .int (nI 0)])), (q1, .inl (cI, 40, .inl (fun j => nI ((fun _ => 0) j)))), (q2, .inl (cI, 40, .inl (fun _ => 0))), (q3, .inl (cI, 40, .inl (fun _ => 0))), (q4, .inl (cJ, 40, .inr (.inl (fun _ => 0)))), (q5, .inl (cJ, 3, .inr (.inl (fun _ => 0)))), (q6, .inl (cJ, 3, .inr (.inl (fun _ => 0)))), (q7, .inl (cI, 120, .inl (fun _ => 0))), (q8, .inl (cI, 18, .inl (fun j => cs_o ((fun _ => some 0) j))))] H := hP
  have hD : va_D A [(h0, .inr (0, [.int (nI 0), .ref q1, .ref q2, .ref q3, .ref q4, .ref q5, .ref q6, .ref q7, .ref q8, .null, .null, .null, .null, .int (nI 0)])), (q1, .inl (cI, 40, .inl (fun j => nI ((fun _ => 0) j)))), (q2, .inl (cI, 40, .inl (fun _ => 0))), (q3, .inl (cI, 40, .inl (fun _ => 0))), (q4, .inl (cJ, 40, .inr (.inl (fun _ => 0)))), (q5, .inl (cJ, 3, .inr (.inl (fun _ => 0)))), (q6, .inl (cJ, 3, .inr (.inl (fun _ => 0)))), (q7, .inl (cI, 120, .inl (fun _ => 0))), (q8, .inl (cI, 18, .inl (fun j => cs_o ((fun _ => some 0) j))))] := hD
  refine lv_aload_n hx hb dX0_init_66 rfl (lv_at hl 0 rfl) ?_
  refine lv_iconst (v := nI 3) hx hb dX0_init_67 (by decide) ?_
  refine va_newa (atype := .int) (ty := .int) (a0 := (3, .inl (fun j => nI ((fun _ => 0) j)))) (N' := 3) hx hb (hts _ q65) rfl hK hP hD hS hA (fun _ => rfl) (by decide) (by decide) (by decide) (Nat.le_of_ble_eq_true rfl) (Nat.le_of_ble_eq_true rfl) dX0_init_68 (fun q9 c9 H hK hP hD hS => ?_)
  have e9 := cs_K_int hK 0 2 rfl rfl
  subst e9
  have hK := hK.sub (tys' := [(cI, .int), (cJ, .long)]) [0, 1] rfl
  have hP : va_P D vwCl [(h0, .inr (0, [.int (nI 0), .ref q1, .ref q2, .ref q3, .ref q4, .ref q5, .ref q6, .ref q7, .ref q8, .null, .null, .null, .null, .int (nI 0)])), (q1, .inl (cI, 40, .inl (fun j => nI ((fun _ => 0) j)))), (q2, .inl (cI, 40, .inl (fun _ => 0))), (q3, .inl (cI, 40, .inl (fun _ => 0))), (q4, .inl (cJ, 40, .inr (.inl (fun _ => 0)))), (q5, .inl (cJ, 3, .inr (.inl (fun _ => 0)))), (q6, .inl (cJ, 3, .inr (.inl (fun _ => 0)))), (q7, .inl (cI, 120, .inl (fun _ => 0))), (q8, .inl (cI, 18, .inl (fun j => cs_o ((fun _ => some 0) j)))), (q9, .inl (cI, 3, .inl (fun j => nI ((fun _ => 0) j))))] H := hP
  have hD : va_D A [(h0, .inr (0, [.int (nI 0), .ref q1, .ref q2, .ref q3, .ref q4, .ref q5, .ref q6, .ref q7, .ref q8, .null, .null, .null, .null, .int (nI 0)])), (q1, .inl (cI, 40, .inl (fun j => nI ((fun _ => 0) j)))), (q2, .inl (cI, 40, .inl (fun _ => 0))), (q3, .inl (cI, 40, .inl (fun _ => 0))), (q4, .inl (cJ, 40, .inr (.inl (fun _ => 0)))), (q5, .inl (cJ, 3, .inr (.inl (fun _ => 0)))), (q6, .inl (cJ, 3, .inr (.inl (fun _ => 0)))), (q7, .inl (cI, 120, .inl (fun _ => 0))), (q8, .inl (cI, 18, .inl (fun j => cs_o ((fun _ => some 0) j)))), (q9, .inl (cI, 3, .inl (fun j => nI ((fun _ => 0) j))))] := hD
  refine va_putF (D := D) (ci := 0) (v := .ref q9) (ty := .array .int) (C := RX0) (T := TX0) (N := 14) hx hb hts in_X0 tyX0 tyX0_ok nmX0 hown hK hP hD hS 0 rfl rfl 9 (by decide) (hts _ q31) (fun _ h9 => h9) rfl hin rfl (by decide +kernel) rfl rfl (Nat.le_of_ble_eq_true rfl) dX0_init_70 (fun H locs hP hD hS => ?_)
  have hP : va_P D vwCl [(h0, .inr (0, [.int (nI 0), .ref q1, .ref q2, .ref q3, .ref q4, .ref q5, .ref q6, .ref q7, .ref q8, .ref q9, .null, .null, .null, .int (nI 0)])), (q1, .inl (cI, 40, .inl (fun j => nI ((fun _ => 0) j)))), (q2, .inl (cI, 40, .inl (fun _ => 0))), (q3, .inl (cI, 40, .inl (fun _ => 0))), (q4, .inl (cJ, 40, .inr (.inl (fun _ => 0)))), (q5, .inl (cJ, 3, .inr (.inl (fun _ => 0)))), (q6, .inl (cJ, 3, .inr (.inl (fun _ => 0)))), (q7, .inl (cI, 120, .inl (fun _ => 0))), (q8, .inl (cI, 18, .inl (fun j => cs_o ((fun _ => some 0) j)))), (q9, .inl (cI, 3, .inl (fun j => nI ((fun _ => 0) j))))] H := hP
  have hD : va_D A [(h0, .inr (0, [.int (nI 0), .ref q1, .ref q2, .ref q3, .ref q4, .ref q5, .ref q6, .ref q7, .ref q8, .ref q9, .null, .null, .null, .int (nI 0)])), (q1, .inl (cI, 40, .inl (fun j => nI ((fun _ => 0) j)))), (q2, .inl (cI, 40, .inl (fun _ => 0))), (q3, .inl (cI, 40, .inl (fun _ => 0))), (q4, .inl (cJ, 40, .inr (.inl (fun _ => 0)))), (q5, .inl (cJ, 3, .inr (.inl (fun _ => 0)))), (q6, .inl (cJ, 3, .inr (.inl (fun _ => 0)))), (q7, .inl (cI, 120, .inl (fun _ => 0))), (q8, .inl (cI, 18, .inl (fun j => cs_o ((fun _ => some 0) j)))), (q9, .inl (cI, 3, .inl (fun j => nI ((fun _ => 0) j))))] := hD
  refine lv_aload_n hx hb dX0_init_73 rfl (lv_at hl 0 rfl) ?_
  refine lv_iconst (v := nI 3) hx hb dX0_init_74 (by decide) ?_
  refine va_newa (atype := .long) (ty := .long) (a0 := (3, .inr (.inl (fun _ => 0)))) (N' := 3) hx hb (hts _ q66) rfl hK hP hD hS hA (fun _ => rfl) (by decide) (by decide) (by decide) (Nat.le_of_ble_eq_true rfl) (Nat.le_of_ble_eq_true rfl) dX0_init_75 (fun q10 c9 H hK hP hD hS => ?_)
  have e9 := cs_K_long hK 1 2 rfl rfl
  subst e9
  have hK := hK.sub (tys' := [(cI, .int), (cJ, .long)]) [0, 1] rfl
  have hP : va_P D vwCl [(h0, .inr (0, [.int (nI 0), .ref q1, .ref q2, .ref q3, .ref q4, .ref q5, .ref q6, .ref q7, .ref q8, .ref q9, .null, .null, .null, .int (nI 0)])), (q1, .inl (cI, 40, .inl (fun j => nI ((fun _ => 0) j)))), (q2, .inl (cI, 40, .inl (fun _ => 0))), (q3, .inl (cI, 40, .inl (fun _ => 0))), (q4, .inl (cJ, 40, .inr (.inl (fun _ => 0)))), (q5, .inl (cJ, 3, .inr (.inl (fun _ => 0)))), (q6, .inl (cJ, 3, .inr (.inl (fun _ => 0)))), (q7, .inl (cI, 120, .inl (fun _ => 0))), (q8, .inl (cI, 18, .inl (fun j => cs_o ((fun _ => some 0) j)))), (q9, .inl (cI, 3, .inl (fun j => nI ((fun _ => 0) j)))), (q10, .inl (cJ, 3, .inr (.inl (fun _ => 0))))] H := hP
  have hD : va_D A [(h0, .inr (0, [.int (nI 0), .ref q1, .ref q2, .ref q3, .ref q4, .ref q5, .ref q6, .ref q7, .ref q8, .ref q9, .null, .null, .null, .int (nI 0)])), (q1, .inl (cI, 40, .inl (fun j => nI ((fun _ => 0) j)))), (q2, .inl (cI, 40, .inl (fun _ => 0))), (q3, .inl (cI, 40, .inl (fun _ => 0))), (q4, .inl (cJ, 40, .inr (.inl (fun _ => 0)))), (q5, .inl (cJ, 3, .inr (.inl (fun _ => 0)))), (q6, .inl (cJ, 3, .inr (.inl (fun _ => 0)))), (q7, .inl (cI, 120, .inl (fun _ => 0))), (q8, .inl (cI, 18, .inl (fun j => cs_o ((fun _ => some 0) j)))), (q9, .inl (cI, 3, .inl (fun j => nI ((fun _ => 0) j)))), (q10, .inl (cJ, 3, .inr (.inl (fun _ => 0))))] := hD
  refine va_putF (D := D) (ci := 0) (v := .ref q10) (ty := .array .long) (C := RX0) (T := TX0) (N := 14) hx hb hts in_X0 tyX0 tyX0_ok nmX0 hown hK hP hD hS 0 rfl rfl 10 (by decide) (hts _ q32) (fun _ h9 => h9) rfl hin rfl (by decide +kernel) rfl rfl (Nat.le_of_ble_eq_true rfl) dX0_init_77 (fun H locs hP hD hS => ?_)
  have hP : va_P D vwCl [(h0, .inr (0, [.int (nI 0), .ref q1, .ref q2, .ref q3, .ref q4, .ref q5, .ref q6, .ref q7, .ref q8, .ref q9, .ref q10, .null, .null, .int (nI 0)])), (q1, .inl (cI, 40, .inl (fun j => nI ((fun _ => 0) j)))), (q2, .inl (cI, 40, .inl (fun _ => 0))), (q3, .inl (cI, 40, .inl (fun _ => 0))), (q4, .inl (cJ, 40, .inr (.inl (fun _ => 0)))), (q5, .inl (cJ, 3, .inr (.inl (fun _ => 0)))), (q6, .inl (cJ, 3, .inr (.inl (fun _ => 0)))), (q7, .inl (cI, 120, .inl (fun _ => 0))), (q8, .inl (cI, 18, .inl (fun j => cs_o ((fun _ => some 0) j)))), (q9, .inl (cI, 3, .inl (fun j => nI ((fun _ => 0) j)))), (q10, .inl (cJ, 3, .inr (.inl (fun _ => 0))))] H := hP
  have hD : va_D A [(h0, .inr (0, [.int (nI 0), .ref q1, .ref q2, .ref q3, .ref q4, .ref q5, .ref q6, .ref q7, .ref q8, .ref q9, .ref q10, .null, .null, .int (nI 0)])), (q1, .inl (cI, 40, .inl (fun j => nI ((fun _ => 0) j)))), (q2, .inl (cI, 40, .inl (fun _ => 0))), (q3, .inl (cI, 40, .inl (fun _ => 0))), (q4, .inl (cJ, 40, .inr (.inl (fun _ => 0)))), (q5, .inl (cJ, 3, .inr (.inl (fun _ => 0)))), (q6, .inl (cJ, 3, .inr (.inl (fun _ => 0)))), (q7, .inl (cI, 120, .inl (fun _ => 0))), (q8, .inl (cI, 18, .inl (fun j => cs_o ((fun _ => some 0) j)))), (q9, .inl (cI, 3, .inl (fun j => nI ((fun _ => 0) j)))), (q10, .inl (cJ, 3, .inr (.inl (fun _ => 0))))] := hD
  refine lv_aload_n hx hb dX0_init_80 rfl (lv_at hl 0 rfl) ?_
  refine lv_iconst (v := nI 3) hx hb dX0_init_81 (by decide) ?_
  refine va_newa (atype := .int) (ty := .int) (a0 := (3, .inl (fun _ => 0))) (N' := 3) hx hb (hts _ q65) rfl hK hP hD hS hA (fun _ => rfl) (by decide) (by decide) (by decide) (Nat.le_of_ble_eq_true rfl) (Nat.le_of_ble_eq_true rfl) dX0_init_82 (fun q11 c9 H hK hP hD hS => ?_)
  have e9 := cs_K_int hK 0 2 rfl rfl
  subst e9
  have hK := hK.sub (tys' := [(cI, .int), (cJ, .long)]) [0, 1] rfl
  have hP : va_P D vwCl [(h0, .inr (0, [.int (nI 0), .ref q1, .ref q2, .ref q3, .ref q4, .ref q5, .ref q6, .ref q7, .ref q8, .ref q9, .ref q10, .null, .null, .int (nI 0)])), (q1, .inl (cI, 40, .inl (fun j => nI ((fun _ => 0) j)))), (q2, .inl (cI, 40, .inl (fun _ => 0))), (q3, .inl (cI, 40, .inl (fun _ => 0))), (q4, .inl (cJ, 40, .inr (.inl (fun _ => 0)))), (q5, .inl (cJ, 3, .inr (.inl (fun _ => 0)))), (q6, .inl (cJ, 3, .inr (.inl (fun _ => 0)))), (q7, .inl (cI, 120, .inl (fun _ => 0))), (q8, .inl (cI, 18, .inl (fun j => cs_o ((fun _ => some 0) j)))), (q9, .inl (cI, 3, .inl (fun j => nI ((fun _ => 0) j)))), (q10, .inl (cJ, 3, .inr (.inl (fun _ => 0)))), (q11, .inl (cI, 3, .inl (fun _ => 0)))] H := hP
  have hD : va_D A [(h0, .inr (0, [.int (nI 0), .ref q1, .ref q2, .ref q3, .ref q4, .ref q5, .ref q6, .ref q7, .ref q8, .ref q9, .ref q10, .null, .null, .int (nI 0)])), (q1, .inl (cI, 40, .inl (fun j => nI ((fun _ => 0) j)))), (q2, .inl (cI, 40, .inl (fun _ => 0))), (q3, .inl (cI, 40, .inl (fun _ => 0))), (q4, .inl (cJ, 40, .inr (.inl (fun _ => 0)))), (q5, .inl (cJ, 3, .inr (.inl (fun _ => 0)))), (q6, .inl (cJ, 3, .inr (.inl (fun _ => 0)))), (q7, .inl (cI, 120, .inl (fun _ => 0))), (q8, .inl (cI, 18, .inl (fun j => cs_o ((fun _ => some 0) j)))), (q9, .inl (cI, 3, .inl (fun j => nI ((fun _ => 0) j)))), (q10, .inl (cJ, 3, .inr (.inl (fun _ => 0)))), (q11, .inl (cI, 3, .inl (fun _ => 0)))] := hD
  refine va_putF (D := D) (ci := 0) (v := .ref q11) (ty := .array .int) (C := RX0) (T := TX0) (N := 14) hx hb hts in_X0 tyX0 tyX0_ok nmX0 hown hK hP hD hS 0 rfl rfl 11 (by decide) (hts _ q33) (fun _ h9 => h9) rfl hin rfl (by decide +kernel) rfl rfl (Nat.le_of_ble_eq_true rfl) dX0_init_84 (fun H locs hP hD hS => ?_)
  have hP : va_P D vwCl [(h0, .inr (0, [.int (nI 0), .ref q1, .ref q2, .ref q3, .ref q4, .ref q5, .ref q6, .ref q7, .ref q8, .ref q9, .ref q10, .ref q11, .null, .int (nI 0)])), (q1, .inl (cI, 40, .inl (fun j => nI ((fun _ => 0) j)))), (q2, .inl (cI, 40, .inl (fun _ => 0))), (q3, .inl (cI, 40, .inl (fun _ => 0))), (q4, .inl (cJ, 40, .inr (.inl (fun _ => 0)))), (q5, .inl (cJ, 3, .inr (.inl (fun _ => 0)))), (q6, .inl (cJ, 3, .inr (.inl (fun _ => 0)))), (q7, .inl (cI, 120, .inl (fun _ => 0))), (q8, .inl (cI, 18, .inl (fun j => cs_o ((fun _ => some 0) j)))), (q9, .inl (cI, 3, .inl (fun j => nI ((fun _ => 0) j)))), (q10, .inl (cJ, 3, .inr (.inl (fun _ => 0)))), (q11, .inl (cI, 3, .inl (fun _ => 0)))] H := hP
  have hD : va_D A [(h0, .inr (0, [.int (nI 0), .ref q1, .ref q2, .ref q3, .ref q4, .ref q5, .ref q6, .ref q7, .ref q8, .ref q9, .ref q10, .ref q11, .null, .int (nI 0)])), (q1, .inl (cI, 40, .inl (fun j => nI ((fun _ => 0) j)))), (q2, .inl (cI, 40, .inl (fun _ => 0))), (q3, .inl (cI, 40, .inl (fun _ => 0))), (q4, .inl (cJ, 40, .inr (.inl (fun _ => 0)))), (q5, .inl (cJ, 3, .inr (.inl (fun _ => 0)))), (q6, .inl (cJ, 3, .inr (.inl (fun _ => 0)))), (q7, .inl (cI, 120, .inl (fun _ => 0))), (q8, .inl (cI, 18, .inl (fun j => cs_o ((fun _ => some 0) j)))), (q9, .inl (cI, 3, .inl (fun j => nI ((fun _ => 0) j)))), (q10, .inl (cJ, 3, .inr (.inl (fun _ => 0)))), (q11, .inl (cI, 3, .inl (fun _ => 0)))] := hD
  refine lv_aload_n hx hb dX0_init_87 rfl (lv_at hl 0 rfl) ?_
  refine lv_bipush (v := nI 40) hx hb dX0_init_88 (by decide) ?_
  refine va_newa (atype := .int) (ty := .int) (a0 := (40, .inl (fun j => nI ((fun _ => 0) j)))) (N' := 40) hx hb (hts _ q65) rfl hK hP hD hS hA (fun _ => rfl) (by decide) (by decide) (by decide) (Nat.le_of_ble_eq_true rfl) (Nat.le_of_ble_eq_true rfl) dX0_init_90 (fun q12 c9 H hK hP hD hS => ?_)
  have e9 := cs_K_int hK 0 2 rfl rfl
  subst e9
  have hK := hK.sub (tys' := [(cI, .int), (cJ, .long)]) [0, 1] rfl
  have hP : va_P D vwCl [(h0, .inr (0, [.int (nI 0), .ref q1, .ref q2, .ref q3, .ref q4, .ref q5, .ref q6, .ref q7, .ref q8, .ref q9, .ref q10, .ref q11, .null, .int (nI 0)])), (q1, .inl (cI, 40, .inl (fun j => nI ((fun _ => 0) j)))), (q2, .inl (cI, 40, .inl (fun _ => 0))), (q3, .inl (cI, 40, .inl (fun _ => 0))), (q4, .inl (cJ, 40, .inr (.inl (fun _ => 0)))), (q5, .inl (cJ, 3, .inr (.inl (fun _ => 0)))), (q6, .inl (cJ, 3, .inr (.inl (fun _ => 0)))), (q7, .inl (cI, 120, .inl (fun _ => 0))), (q8, .inl (cI, 18, .inl (fun j => cs_o ((fun _ => some 0) j)))), (q9, .inl (cI, 3, .inl (fun j => nI ((fun _ => 0) j)))), (q10, .inl (cJ, 3, .inr (.inl (fun _ => 0)))), (q11, .inl (cI, 3, .inl (fun _ => 0))), (q12, .inl (cI, 40, .inl (fun j => nI ((fun _ => 0) j))))] H := hP
  have hD : va_D A [(h0, .inr (0, [.int (nI 0), .ref q1, .ref q2, .ref q3, .ref q4, .ref q5, .ref q6, .ref q7, .ref q8, .ref q9, .ref q10, .ref q11, .null, .int (nI 0)])), (q1, .inl (cI, 40, .inl (fun j => nI ((fun _ => 0) j)))), (q2, .inl (cI, 40, .inl (fun _ => 0))), (q3, .inl (cI, 40, .inl (fun _ => 0))), (q4, .inl (cJ, 40, .inr (.inl (fun _ => 0)))), (q5, .inl (cJ, 3, .inr (.inl (fun _ => 0)))), (q6, .inl (cJ, 3, .inr (.inl (fun _ => 0)))), (q7, .inl (cI, 120, .inl (fun _ => 0))), (q8, .inl (cI, 18, .inl (fun j => cs_o ((fun _ => some 0) j)))), (q9, .inl (cI, 3, .inl (fun j => nI ((fun _ => 0) j)))), (q10, .inl (cJ, 3, .inr (.inl (fun _ => 0)))), (q11, .inl (cI, 3, .inl (fun _ => 0))), (q12, .inl (cI, 40, .inl (fun j => nI ((fun _ => 0) j))))] := hD
  refine va_putF (D := D) (ci := 0) (v := .ref q12) (ty := .array .int) (C := RX0) (T := TX0) (N := 14) hx hb hts in_X0 tyX0 tyX0_ok nmX0 hown hK hP hD hS 0 rfl rfl 12 (by decide) (hts _ q34) (fun _ h9 => h9) rfl hin rfl (by decide +kernel) rfl rfl (Nat.le_of_ble_eq_true rfl) dX0_init_92 (fun H locs hP hD hS => ?_)
  have hP : va_P D vwCl [(h0, .inr (0, [.int (nI 0), .ref q1, .ref q2, .ref q3, .ref q4, .ref q5, .ref q6, .ref q7, .ref q8, .ref q9, .ref q10, .ref q11, .ref q12, .int (nI 0)])), (q1, .inl (cI, 40, .inl (fun j => nI ((fun _ => 0) j)))), (q2, .inl (cI, 40, .inl (fun _ => 0))), (q3, .inl (cI, 40, .inl (fun _ => 0))), (q4, .inl (cJ, 40, .inr (.inl (fun _ => 0)))), (q5, .inl (cJ, 3, .inr (.inl (fun _ => 0)))), (q6, .inl (cJ, 3, .inr (.inl (fun _ => 0)))), (q7, .inl (cI, 120, .inl (fun _ => 0))), (q8, .inl (cI, 18, .inl (fun j => cs_o ((fun _ => some 0) j)))), (q9, .inl (cI, 3, .inl (fun j => nI ((fun _ => 0) j)))), (q10, .inl (cJ, 3, .inr (.inl (fun _ => 0)))), (q11, .inl (cI, 3, .inl (fun _ => 0))), (q12, .inl (cI, 40, .inl (fun j => nI ((fun _ => 0) j))))] H := hP
  have hD : va_D A [(h0, .inr (0, [.int (nI 0), .ref q1, .ref q2, .ref q3, .ref q4, .ref q5, .ref q6, .ref q7, .ref q8, .ref q9, .ref q10, .ref q11, .ref q12, .int (nI 0)])), (q1, .inl (cI, 40, .inl (fun j => nI ((fun _ => 0) j)))), (q2, .inl (cI, 40, .inl (fun _ => 0))), (q3, .inl (cI, 40, .inl (fun _ => 0))), (q4, .inl (cJ, 40, .inr (.inl (fun _ => 0)))), (q5, .inl (cJ, 3, .inr (.inl (fun _ => 0)))), (q6, .inl (cJ, 3, .inr (.inl (fun _ => 0)))), (q7, .inl (cI, 120, .inl (fun _ => 0))), (q8, .inl (cI, 18, .inl (fun j => cs_o ((fun _ => some 0) j)))), (q9, .inl (cI, 3, .inl (fun j => nI ((fun _ => 0) j)))), (q10, .inl (cJ, 3, .inr (.inl (fun _ => 0)))), (q11, .inl (cI, 3, .inl (fun _ => 0))), (q12, .inl (cI, 40, .inl (fun j => nI ((fun _ => 0) j))))] := hD
  refine W.widen (k := 12) (n := 353) (by decide) (by decide) ?_
  obtain ⟨ad, ead⟩ : ∃ ad : Nat → Nat, ad = (fun k => [h0, q1, q2, q3, q4, q5, q6, q7, q8, q9, q10, q11, q12].getD k 0) := ⟨_, rfl⟩
  have hP : va_P D vwCl (cs_wX ad cI cJ 0 ((fun _ => 0)) ((fun _ => 0)) ((fun _ => 0)) ((fun _ => 0)) ((fun _ => 0)) ((fun _ => 0)) ((fun _ => 0)) ((fun _ => some 0)) ((cs_pl 0)) ((fun _ => 0)) ((fun _ => 0)) ((fun _ => 0)) 0) H := by rw [ead]; exact hP
  have hD : va_D A (cs_wX ad cI cJ 0 ((fun _ => 0)) ((fun _ => 0)) ((fun _ => 0)) ((fun _ => 0)) ((fun _ => 0)) ((fun _ => 0)) ((fun _ => 0)) ((fun _ => some 0)) ((cs_pl 0)) ((fun _ => 0)) ((fun _ => 0)) ((fun _ => 0)) 0) := by rw [ead]; exact hD
  have h0a : h0 = ad 0 := by rw [ead]; rfl
  have hl : lv_has ls 2 [(0, .ref (ad 0))] := by rw [← h0a]; exact hl
  refine lv_iconst (v := nI 0) hx hb dX0_init_95 (by decide) ?_
  refine lv_istore_n (lv' := [(1, .int (nI 0)), (0, .ref (ad 0))]) hx hb dX0_init_96 rfl hl (by decide) rfl (fun ls hl => ?_)
  refine cs_initX_best hx hb hml hown hts hA ⟨Nat.zero_le _, Nat.zero_le _⟩ hK (fun bs hbs H locs hP hD hS ls hl => ?_) 18 0 rfl _ (fun a ha => absurd ha (by omega)) _ _ hP hD hS ls (lv_sub hl [1, 0] rfl)
  refine lv_iconst (v := nI 0) hx hb dX0_init_117 (by decide) ?_
  refine lv_istore_n (lv' := [(1, .int (nI 0)), (0, .ref (ad 0))]) hx hb dX0_init_118 rfl hl (by decide) rfl (fun ls hl => ?_)
  refine cs_initX_place hx hb hml hown hts hA ⟨Nat.zero_le _, Nat.zero_le _⟩ hK (fun pl hpl H locs hP hD hS ls hl => ?_) 3 0 rfl _ rfl _ _ hP hD hS ls (lv_sub hl [1, 0] rfl)
  subst hpl
  exact W.vret hx hb hr (fun t ht hW => ⟨⟨(ad, cI, cJ, bs), rfl, ⟨h0a.symm, hbs⟩, by rw [ht]; exact hP, va_K.moved hW.alike hK, hD⟩, hS.F ht⟩) hS.2.2 dX0_init_137

set_option maxHeartbeats 4000000 in
set_option maxRecDepth 100000 in
theorem cs_initM (l : Launch) (D : va_G) (h0 sz : Nat) : Met l yX1_init (ws_ yX1_init cX1_init 2 none) ({ frames := 1, cells := 8, slots := 2003, locals := 12 }) (va_Pc [.ref h0] (fun U => U.heap.size = sz ∧ va_P D vwCl [(h0, .inr (1, [.int (nI 0), .null, .null, .null, .null, .null, .null, .null, .null]))] U.heap ∧ va_K D vwCl [] U ∧ va_D (fun _ => True) [(h0, .inr (1, [.int (nI 0), .null, .null, .null, .null, .null, .null, .null, .null]))])) (va_Qv (fun u : ((Nat → Nat) × ClassId × ClassId) => u.1 0 = h0) (fun (u : ((Nat → Nat) × ClassId × ClassId)) t => va_P D vwCl (cs_wM u.1 u.2.1 u.2.2 0 ((fun _ => 0)) ((fun _ => 0)) ((fun _ => 0)) ((fun _ => false)) ((fun _ => false)) ((fun _ => false)) ((cs_pl 3)) ((fun _ => false))) t.heap ∧ va_K D vwCl (cs_tM u.2.1 u.2.2) t ∧ va_D (va_A [(h0, .inr (1, [.int (nI 0), .null, .null, .null, .null, .null, .null, .null, .null]))] sz) (cs_wM u.1 u.2.1 u.2.2 0 ((fun _ => 0)) ((fun _ => 0)) ((fun _ => 0)) ((fun _ => false)) ((fun _ => false)) ((fun _ => false)) ((cs_pl 3)) ((fun _ => false)))) (va_A [(h0, .inr (1, [.int (nI 0), .null, .null, .null, .null, .null, .null, .null, .null]))] sz)) 8 2003 (va_A [(h0, .inr (1, [.int (nI 0), .null, .null, .null, .null, .null, .null, .null, .null]))] sz) := by
  refine Met.ofW (cc := cX1_init) (maxL := 2) (ret := none) (by decide) rfl ?_
  intro p e s m args below meth c s₁ B hml hv9
  obtain ⟨rfl, hsz, hP, hK, hD0⟩ := hv9
  have hx := B.exec
  have hb := B.bytes
  have hr := B.returns
  have hts := atoms_spec (ws := (ws_ yX1_init cX1_init 2 none)) B.pre
  have hts : ∀ w ∈ lw_all, w.before _ s = true := fun w h => hts w (List.mem_cons_of_mem _ h)
  have hown : s.vm.findClass RX1 = some m.cls := findClass_of_methodNamed B.named
  have hlocks := B.notSynchronized
  have hin : meth.name = "<init>" := (name_of_methodNamed B.named B.method).1
  subst hsz
  have hD := hD0.self (sz := s.heap.size)
  generalize hAe : va_A [(h0, .inr (1, [.int (nI 0), .null, .null, .null, .null, .null, .null, .null, .null]))] s.heap.size = A at hD ⊢
  have hA : ∀ q : Nat, s.heap.size ≤ q → A q := fun q h => by rw [← hAe]; exact Or.inr h
  have hS : va_S A s.heap s.heap [] := va_S.rf
  have hP : va_P D vwCl [(h0, .inr (1, [.int (nI 0), .null, .null, .null, .null, .null, .null, .null, .null]))] s.heap := hP
  have hl := lv_entry ([.ref h0]) (n := 2) (Nat.le_of_ble_eq_true rfl)
  rw [lg_entry_eq]
  generalize (lg_sl ([.ref h0]) ++ List.replicate (2 - (lg_sl ([.ref h0])).length) Slot.unset).toArray = ls at hl ⊢
  have hl : lv_has ls 2 [(0, .ref h0)] := hl
  refine lv_aload_n hx hb dX1_init_0 rfl (lv_at hl 0 rfl) ?_
  refine W.objInit hx hb hown (hts _ q161) (hts _ q20) (hts _ q21) rfl (by rw [hml]; exact hl.1) rfl dX1_init_1 (Nat.le_of_ble_eq_true rfl) (Nat.le_of_ble_eq_true rfl) ?_
  refine W.eq (g2 := F0 m 4 ls []) rfl ?_
  refine lv_aload_n hx hb dX1_init_4 rfl (lv_at hl 0 rfl) ?_
  refine lv_bipush (v := nI 40) hx hb dX1_init_5 (by decide) ?_
  refine va_newa (atype := .int) (ty := .int) (a0 := (40, .inl (fun j => nI ((fun _ => 0) j)))) (N' := 40) hx hb (hts _ q65) rfl hK hP hD hS hA (fun _ => rfl) (by decide) (by decide) (by decide) (Nat.le_of_ble_eq_true rfl) (Nat.le_of_ble_eq_true rfl) dX1_init_7 (fun q1 cI H hK hP hD hS => ?_)
  have hP : va_P D vwCl [(h0, .inr (1, [.int (nI 0), .null, .null, .null, .null, .null, .null, .null, .null])), (q1, .inl (cI, 40, .inl (fun j => nI ((fun _ => 0) j))))] H := hP
  have hD : va_D A [(h0, .inr (1, [.int (nI 0), .null, .null, .null, .null, .null, .null, .null, .null])), (q1, .inl (cI, 40, .inl (fun j => nI ((fun _ => 0) j))))] := hD
  refine va_putF (D := D) (ci := 1) (v := .ref q1) (ty := .array .int) (C := RX1) (T := TX1) (N := 9) hx hb hts in_X1 tyX1 tyX1_ok nmX1 hown hK hP hD hS 0 rfl rfl 1 (by decide) (hts _ q163) (fun _ h9 => h9) rfl hin rfl (by decide +kernel) rfl rfl (Nat.le_of_ble_eq_true rfl) dX1_init_9 (fun H locs hP hD hS => ?_)
  have hP : va_P D vwCl [(h0, .inr (1, [.int (nI 0), .ref q1, .null, .null, .null, .null, .null, .null, .null])), (q1, .inl (cI, 40, .inl (fun j => nI ((fun _ => 0) j))))] H := hP
  have hD : va_D A [(h0, .inr (1, [.int (nI 0), .ref q1, .null, .null, .null, .null, .null, .null, .null])), (q1, .inl (cI, 40, .inl (fun j => nI ((fun _ => 0) j))))] := hD
  refine lv_aload_n hx hb dX1_init_12 rfl (lv_at hl 0 rfl) ?_
  refine lv_bipush (v := nI 40) hx hb dX1_init_13 (by decide) ?_
  refine va_newa (atype := .int) (ty := .int) (a0 := (40, .inl (fun _ => 0))) (N' := 40) hx hb (hts _ q65) rfl hK hP hD hS hA (fun _ => rfl) (by decide) (by decide) (by decide) (Nat.le_of_ble_eq_true rfl) (Nat.le_of_ble_eq_true rfl) dX1_init_15 (fun q2 c9 H hK hP hD hS => ?_)
  have e9 := cs_K_int hK 0 1 rfl rfl
  subst e9
  have hK := hK.sub (tys' := [(cI, .int)]) [0] rfl
  have hP : va_P D vwCl [(h0, .inr (1, [.int (nI 0), .ref q1, .null, .null, .null, .null, .null, .null, .null])), (q1, .inl (cI, 40, .inl (fun j => nI ((fun _ => 0) j)))), (q2, .inl (cI, 40, .inl (fun _ => 0)))] H := hP
  have hD : va_D A [(h0, .inr (1, [.int (nI 0), .ref q1, .null, .null, .null, .null, .null, .null, .null])), (q1, .inl (cI, 40, .inl (fun j => nI ((fun _ => 0) j)))), (q2, .inl (cI, 40, .inl (fun _ => 0)))] := hD
  refine va_putF (D := D) (ci := 1) (v := .ref q2) (ty := .array .int) (C := RX1) (T := TX1) (N := 9) hx hb hts in_X1 tyX1 tyX1_ok nmX1 hown hK hP hD hS 0 rfl rfl 2 (by decide) (hts _ q164) (fun _ h9 => h9) rfl hin rfl (by decide +kernel) rfl rfl (Nat.le_of_ble_eq_true rfl) dX1_init_17 (fun H locs hP hD hS => ?_)
  have hP : va_P D vwCl [(h0, .inr (1, [.int (nI 0), .ref q1, .ref q2, .null, .null, .null, .null, .null, .null])), (q1, .inl (cI, 40, .inl (fun j => nI ((fun _ => 0) j)))), (q2, .inl (cI, 40, .inl (fun _ => 0)))] H := hP
  have hD : va_D A [(h0, .inr (1, [.int (nI 0), .ref q1, .ref q2, .null, .null, .null, .null, .null, .null])), (q1, .inl (cI, 40, .inl (fun j => nI ((fun _ => 0) j)))), (q2, .inl (cI, 40, .inl (fun _ => 0)))] := hD
  refine lv_aload_n hx hb dX1_init_20 rfl (lv_at hl 0 rfl) ?_
  refine lv_bipush (v := nI 40) hx hb dX1_init_21 (by decide) ?_
  refine va_newa (atype := .int) (ty := .int) (a0 := (40, .inl (fun _ => 0))) (N' := 40) hx hb (hts _ q65) rfl hK hP hD hS hA (fun _ => rfl) (by decide) (by decide) (by decide) (Nat.le_of_ble_eq_true rfl) (Nat.le_of_ble_eq_true rfl) dX1_init_23 (fun q3 c9 H hK hP hD hS => ?_)
  have e9 := cs_K_int hK 0 1 rfl rfl
  subst e9
  have hK := hK.sub (tys' := [(cI, .int)]) [0] rfl
  have hP : va_P D vwCl [(h0, .inr (1, [.int (nI 0), .ref q1, .ref q2, .null, .null, .null, .null, .null, .null])), (q1, .inl (cI, 40, .inl (fun j => nI ((fun _ => 0) j)))), (q2, .inl (cI, 40, .inl (fun _ => 0))), (q3, .inl (cI, 40, .inl (fun _ => 0)))] H := hP
  have hD : va_D A [(h0, .inr (1, [.int (nI 0), .ref q1, .ref q2, .null, .null, .null, .null, .null, .null])), (q1, .inl (cI, 40, .inl (fun j => nI ((fun _ => 0) j)))), (q2, .inl (cI, 40, .inl (fun _ => 0))), (q3, .inl (cI, 40, .inl (fun _ => 0)))] := hD
  refine va_putF (D := D) (ci := 1) (v := .ref q3) (ty := .array .int) (C := RX1) (T := TX1) (N := 9) hx hb hts in_X1 tyX1 tyX1_ok nmX1 hown hK hP hD hS 0 rfl rfl 3 (by decide) (hts _ q165) (fun _ h9 => h9) rfl hin rfl (by decide +kernel) rfl rfl (Nat.le_of_ble_eq_true rfl) dX1_init_25 (fun H locs hP hD hS => ?_)
  have hP : va_P D vwCl [(h0, .inr (1, [.int (nI 0), .ref q1, .ref q2, .ref q3, .null, .null, .null, .null, .null])), (q1, .inl (cI, 40, .inl (fun j => nI ((fun _ => 0) j)))), (q2, .inl (cI, 40, .inl (fun _ => 0))), (q3, .inl (cI, 40, .inl (fun _ => 0)))] H := hP
  have hD : va_D A [(h0, .inr (1, [.int (nI 0), .ref q1, .ref q2, .ref q3, .null, .null, .null, .null, .null])), (q1, .inl (cI, 40, .inl (fun j => nI ((fun _ => 0) j)))), (q2, .inl (cI, 40, .inl (fun _ => 0))), (q3, .inl (cI, 40, .inl (fun _ => 0)))] := hD
  refine lv_aload_n hx hb dX1_init_28 rfl (lv_at hl 0 rfl) ?_
  refine lv_sipush (v := nI 1600) hx hb dX1_init_29 (by decide) ?_
  refine va_newa (atype := .boolean) (ty := .boolean) (a0 := (1600, .inl (fun j => cs_b ((fun _ => false) j)))) (N' := 1600) hx hb (hts _ q190) rfl hK hP hD hS hA (fun _ => rfl) (by decide) (by decide) (by decide) (Nat.le_of_ble_eq_true rfl) (Nat.le_of_ble_eq_true rfl) dX1_init_32 (fun q4 cZ H hK hP hD hS => ?_)
  have hP : va_P D vwCl [(h0, .inr (1, [.int (nI 0), .ref q1, .ref q2, .ref q3, .null, .null, .null, .null, .null])), (q1, .inl (cI, 40, .inl (fun j => nI ((fun _ => 0) j)))), (q2, .inl (cI, 40, .inl (fun _ => 0))), (q3, .inl (cI, 40, .inl (fun _ => 0))), (q4, .inl (cZ, 1600, .inl (fun j => cs_b ((fun _ => false) j))))] H := hP
  have hD : va_D A [(h0, .inr (1, [.int (nI 0), .ref q1, .ref q2, .ref q3, .null, .null, .null, .null, .null])), (q1, .inl (cI, 40, .inl (fun j => nI ((fun _ => 0) j)))), (q2, .inl (cI, 40, .inl (fun _ => 0))), (q3, .inl (cI, 40, .inl (fun _ => 0))), (q4, .inl (cZ, 1600, .inl (fun j => cs_b ((fun _ => false) j))))] := hD
  refine va_putF (D := D) (ci := 1) (v := .ref q4) (ty := .array .boolean) (C := RX1) (T := TX1) (N := 9) hx hb hts in_X1 tyX1 tyX1_ok nmX1 hown hK hP hD hS 0 rfl rfl 4 (by decide) (hts _ q166) (fun _ h9 => h9) rfl hin rfl (by decide +kernel) rfl rfl (Nat.le_of_ble_eq_true rfl) dX1_init_34 (fun H locs hP hD hS => ?_)
  have hP : va_P D vwCl [(h0, .inr (1, [.int (nI 0), .ref q1, .ref q2, .ref q3, .ref q4, .null, .null, .null, .null])), (q1, .inl (cI, 40, .inl (fun j => nI ((fun _ => 0) j)))), (q2, .inl (cI, 40, .inl (fun _ => 0))), (q3, .inl (cI, 40, .inl (fun _ => 0))), (q4, .inl (cZ, 1600, .inl (fun j => cs_b ((fun _ => false) j))))] H := hP
  have hD : va_D A [(h0, .inr (1, [.int (nI 0), .ref q1, .ref q2, .ref q3, .ref q4, .null, .null, .null, .null])), (q1, .inl (cI, 40, .inl (fun j => nI ((fun _ => 0) j)))), (q2, .inl (cI, 40, .inl (fun _ => 0))), (q3, .inl (cI, 40, .inl (fun _ => 0))), (q4, .inl (cZ, 1600, .inl (fun j => cs_b ((fun _ => false) j))))] := hD
  refine lv_aload_n hx hb dX1_init_37 rfl (lv_at hl 0 rfl) ?_
  refine lv_bipush (v := nI 120) hx hb dX1_init_38 (by decide) ?_
  refine va_newa (atype := .boolean) (ty := .boolean) (a0 := (120, .inl (fun j => cs_b ((fun _ => false) j)))) (N' := 120) hx hb (hts _ q190) rfl hK hP hD hS hA (fun _ => rfl) (by decide) (by decide) (by decide) (Nat.le_of_ble_eq_true rfl) (Nat.le_of_ble_eq_true rfl) dX1_init_40 (fun q5 c9 H hK hP hD hS => ?_)
  have e9 := cs_K_boolean hK 1 2 rfl rfl
  subst e9
  have hK := hK.sub (tys' := [(cI, .int), (cZ, .boolean)]) [0, 1] rfl
  have hP : va_P D vwCl [(h0, .inr (1, [.int (nI 0), .ref q1, .ref q2, .ref q3, .ref q4, .null, .null, .null, .null])), (q1, .inl (cI, 40, .inl (fun j => nI ((fun _ => 0) j)))), (q2, .inl (cI, 40, .inl (fun _ => 0))), (q3, .inl (cI, 40, .inl (fun _ => 0))), (q4, .inl (cZ, 1600, .inl (fun j => cs_b ((fun _ => false) j)))), (q5, .inl (cZ, 120, .inl (fun j => cs_b ((fun _ => false) j))))] H := hP
  have hD : va_D A [(h0, .inr (1, [.int (nI 0), .ref q1, .ref q2, .ref q3, .ref q4, .null, .null, .null, .null])), (q1, .inl (cI, 40, .inl (fun j => nI ((fun _ => 0) j)))), (q2, .inl (cI, 40, .inl (fun _ => 0))), (q3, .inl (cI, 40, .inl (fun _ => 0))), (q4, .inl (cZ, 1600, .inl (fun j => cs_b ((fun _ => false) j)))), (q5, .inl (cZ, 120, .inl (fun j => cs_b ((fun _ => false) j))))] := hD
  refine va_putF (D := D) (ci := 1) (v := .ref q5) (ty := .array .boolean) (C := RX1) (T := TX1) (N := 9) hx hb hts in_X1 tyX1 tyX1_ok nmX1 hown hK hP hD hS 0 rfl rfl 5 (by decide) (hts _ q167) (fun _ h9 => h9) rfl hin rfl (by decide +kernel) rfl rfl (Nat.le_of_ble_eq_true rfl) dX1_init_42 (fun H locs hP hD hS => ?_)
  have hP : va_P D vwCl [(h0, .inr (1, [.int (nI 0), .ref q1, .ref q2, .ref q3, .ref q4, .ref q5, .null, .null, .null])), (q1, .inl (cI, 40, .inl (fun j => nI ((fun _ => 0) j)))), (q2, .inl (cI, 40, .inl (fun _ => 0))), (q3, .inl (cI, 40, .inl (fun _ => 0))), (q4, .inl (cZ, 1600, .inl (fun j => cs_b ((fun _ => false) j)))), (q5, .inl (cZ, 120, .inl (fun j => cs_b ((fun _ => false) j))))] H := hP
  have hD : va_D A [(h0, .inr (1, [.int (nI 0), .ref q1, .ref q2, .ref q3, .ref q4, .ref q5, .null, .null, .null])), (q1, .inl (cI, 40, .inl (fun j => nI ((fun _ => 0) j)))), (q2, .inl (cI, 40, .inl (fun _ => 0))), (q3, .inl (cI, 40, .inl (fun _ => 0))), (q4, .inl (cZ, 1600, .inl (fun j => cs_b ((fun _ => false) j)))), (q5, .inl (cZ, 120, .inl (fun j => cs_b ((fun _ => false) j))))] := hD
  refine lv_aload_n hx hb dX1_init_45 rfl (lv_at hl 0 rfl) ?_
  refine lv_bipush (v := nI 120) hx hb dX1_init_46 (by decide) ?_
  refine va_newa (atype := .boolean) (ty := .boolean) (a0 := (120, .inl (fun j => cs_b ((fun _ => false) j)))) (N' := 120) hx hb (hts _ q190) rfl hK hP hD hS hA (fun _ => rfl) (by decide) (by decide) (by decide) (Nat.le_of_ble_eq_true rfl) (Nat.le_of_ble_eq_true rfl) dX1_init_48 (fun q6 c9 H hK hP hD hS => ?_)
  have e9 := cs_K_boolean hK 1 2 rfl rfl
  subst e9
  have hK := hK.sub (tys' := [(cI, .int), (cZ, .boolean)]) [0, 1] rfl
  have hP : va_P D vwCl [(h0, .inr (1, [.int (nI 0), .ref q1, .ref q2, .ref q3, .ref q4, .ref q5, .null, .null, .null])), (q1, .inl (cI, 40, .inl (fun j => nI ((fun _ => 0) j)))), (q2, .inl (cI, 40, .inl (fun _ => 0))), (q3, .inl (cI, 40, .inl (fun _ => 0))), (q4, .inl (cZ, 1600, .inl (fun j => cs_b ((fun _ => false) j)))), (q5, .inl (cZ, 120, .inl (fun j => cs_b ((fun _ => false) j)))), (q6, .inl (cZ, 120, .inl (fun j => cs_b ((fun _ => false) j))))] H := hP
  have hD : va_D A [(h0, .inr (1, [.int (nI 0), .ref q1, .ref q2, .ref q3, .ref q4, .ref q5, .null, .null, .null])), (q1, .inl (cI, 40, .inl (fun j => nI ((fun _ => 0) j)))), (q2, .inl (cI, 40, .inl (fun _ => 0))), (q3, .inl (cI, 40, .inl (fun _ => 0))), (q4, .inl (cZ, 1600, .inl (fun j => cs_b ((fun _ => false) j)))), (q5, .inl (cZ, 120, .inl (fun j => cs_b ((fun _ => false) j)))), (q6, .inl (cZ, 120, .inl (fun j => cs_b ((fun _ => false) j))))] := hD
  refine va_putF (D := D) (ci := 1) (v := .ref q6) (ty := .array .boolean) (C := RX1) (T := TX1) (N := 9) hx hb hts in_X1 tyX1 tyX1_ok nmX1 hown hK hP hD hS 0 rfl rfl 6 (by decide) (hts _ q168) (fun _ h9 => h9) rfl hin rfl (by decide +kernel) rfl rfl (Nat.le_of_ble_eq_true rfl) dX1_init_50 (fun H locs hP hD hS => ?_)
  have hP : va_P D vwCl [(h0, .inr (1, [.int (nI 0), .ref q1, .ref q2, .ref q3, .ref q4, .ref q5, .ref q6, .null, .null])), (q1, .inl (cI, 40, .inl (fun j => nI ((fun _ => 0) j)))), (q2, .inl (cI, 40, .inl (fun _ => 0))), (q3, .inl (cI, 40, .inl (fun _ => 0))), (q4, .inl (cZ, 1600, .inl (fun j => cs_b ((fun _ => false) j)))), (q5, .inl (cZ, 120, .inl (fun j => cs_b ((fun _ => false) j)))), (q6, .inl (cZ, 120, .inl (fun j => cs_b ((fun _ => false) j))))] H := hP
  have hD : va_D A [(h0, .inr (1, [.int (nI 0), .ref q1, .ref q2, .ref q3, .ref q4, .ref q5, .ref q6, .null, .null])), (q1, .inl (cI, 40, .inl (fun j => nI ((fun _ => 0) j)))), (q2, .inl (cI, 40, .inl (fun _ => 0))), (q3, .inl (cI, 40, .inl (fun _ => 0))), (q4, .inl (cZ, 1600, .inl (fun j => cs_b ((fun _ => false) j)))), (q5, .inl (cZ, 120, .inl (fun j => cs_b ((fun _ => false) j)))), (q6, .inl (cZ, 120, .inl (fun j => cs_b ((fun _ => false) j))))] := hD
  refine lv_aload_n hx hb dX1_init_53 rfl (lv_at hl 0 rfl) ?_
  refine lv_iconst (v := nI 3) hx hb dX1_init_54 (by decide) ?_
  refine va_newa (atype := .int) (ty := .int) (a0 := (3, .inl (fun j => nI ((fun _ => 0) j)))) (N' := 3) hx hb (hts _ q65) rfl hK hP hD hS hA (fun _ => rfl) (by decide) (by decide) (by decide) (Nat.le_of_ble_eq_true rfl) (Nat.le_of_ble_eq_true rfl) dX1_init_55 (fun q7 c9 H hK hP hD hS => ?_)
  have e9 := cs_K_int hK 0 2 rfl rfl
  subst e9
  have hK := hK.sub (tys' := [(cI, .int), (cZ, .boolean)]) [0, 1] rfl
  have hP : va_P D vwCl [(h0, .inr (1, [.int (nI 0), .ref q1, .ref q2, .ref q3, .ref q4, .ref q5, .ref q6, .null, .null])), (q1, .inl (cI, 40, .inl (fun j => nI ((fun _ => 0) j)))), (q2, .inl (cI, 40, .inl (fun _ => 0))), (q3, .inl (cI, 40, .inl (fun _ => 0))), (q4, .inl (cZ, 1600, .inl (fun j => cs_b ((fun _ => false) j)))), (q5, .inl (cZ, 120, .inl (fun j => cs_b ((fun _ => false) j)))), (q6, .inl (cZ, 120, .inl (fun j => cs_b ((fun _ => false) j)))), (q7, .inl (cI, 3, .inl (fun j => nI ((fun _ => 0) j))))] H := hP
  have hD : va_D A [(h0, .inr (1, [.int (nI 0), .ref q1, .ref q2, .ref q3, .ref q4, .ref q5, .ref q6, .null, .null])), (q1, .inl (cI, 40, .inl (fun j => nI ((fun _ => 0) j)))), (q2, .inl (cI, 40, .inl (fun _ => 0))), (q3, .inl (cI, 40, .inl (fun _ => 0))), (q4, .inl (cZ, 1600, .inl (fun j => cs_b ((fun _ => false) j)))), (q5, .inl (cZ, 120, .inl (fun j => cs_b ((fun _ => false) j)))), (q6, .inl (cZ, 120, .inl (fun j => cs_b ((fun _ => false) j)))), (q7, .inl (cI, 3, .inl (fun j => nI ((fun _ => 0) j))))] := hD
  refine va_putF (D := D) (ci := 1) (v := .ref q7) (ty := .array .int) (C := RX1) (T := TX1) (N := 9) hx hb hts in_X1 tyX1 tyX1_ok nmX1 hown hK hP hD hS 0 rfl rfl 7 (by decide) (hts _ q169) (fun _ h9 => h9) rfl hin rfl (by decide +kernel) rfl rfl (Nat.le_of_ble_eq_true rfl) dX1_init_57 (fun H locs hP hD hS => ?_)
  have hP : va_P D vwCl [(h0, .inr (1, [.int (nI 0), .ref q1, .ref q2, .ref q3, .ref q4, .ref q5, .ref q6, .ref q7, .null])), (q1, .inl (cI, 40, .inl (fun j => nI ((fun _ => 0) j)))), (q2, .inl (cI, 40, .inl (fun _ => 0))), (q3, .inl (cI, 40, .inl (fun _ => 0))), (q4, .inl (cZ, 1600, .inl (fun j => cs_b ((fun _ => false) j)))), (q5, .inl (cZ, 120, .inl (fun j => cs_b ((fun _ => false) j)))), (q6, .inl (cZ, 120, .inl (fun j => cs_b ((fun _ => false) j)))), (q7, .inl (cI, 3, .inl (fun j => nI ((fun _ => 0) j))))] H := hP
  have hD : va_D A [(h0, .inr (1, [.int (nI 0), .ref q1, .ref q2, .ref q3, .ref q4, .ref q5, .ref q6, .ref q7, .null])), (q1, .inl (cI, 40, .inl (fun j => nI ((fun _ => 0) j)))), (q2, .inl (cI, 40, .inl (fun _ => 0))), (q3, .inl (cI, 40, .inl (fun _ => 0))), (q4, .inl (cZ, 1600, .inl (fun j => cs_b ((fun _ => false) j)))), (q5, .inl (cZ, 120, .inl (fun j => cs_b ((fun _ => false) j)))), (q6, .inl (cZ, 120, .inl (fun j => cs_b ((fun _ => false) j)))), (q7, .inl (cI, 3, .inl (fun j => nI ((fun _ => 0) j))))] := hD
  refine lv_aload_n hx hb dX1_init_60 rfl (lv_at hl 0 rfl) ?_
  refine lv_bipush (v := nI 40) hx hb dX1_init_61 (by decide) ?_
  refine va_newa (atype := .boolean) (ty := .boolean) (a0 := (40, .inl (fun j => cs_b ((fun _ => false) j)))) (N' := 40) hx hb (hts _ q190) rfl hK hP hD hS hA (fun _ => rfl) (by decide) (by decide) (by decide) (Nat.le_of_ble_eq_true rfl) (Nat.le_of_ble_eq_true rfl) dX1_init_63 (fun q8 c9 H hK hP hD hS => ?_)
  have e9 := cs_K_boolean hK 1 2 rfl rfl
  subst e9
  have hK := hK.sub (tys' := [(cI, .int), (cZ, .boolean)]) [0, 1] rfl
  have hP : va_P D vwCl [(h0, .inr (1, [.int (nI 0), .ref q1, .ref q2, .ref q3, .ref q4, .ref q5, .ref q6, .ref q7, .null])), (q1, .inl (cI, 40, .inl (fun j => nI ((fun _ => 0) j)))), (q2, .inl (cI, 40, .inl (fun _ => 0))), (q3, .inl (cI, 40, .inl (fun _ => 0))), (q4, .inl (cZ, 1600, .inl (fun j => cs_b ((fun _ => false) j)))), (q5, .inl (cZ, 120, .inl (fun j => cs_b ((fun _ => false) j)))), (q6, .inl (cZ, 120, .inl (fun j => cs_b ((fun _ => false) j)))), (q7, .inl (cI, 3, .inl (fun j => nI ((fun _ => 0) j)))), (q8, .inl (cZ, 40, .inl (fun j => cs_b ((fun _ => false) j))))] H := hP
  have hD : va_D A [(h0, .inr (1, [.int (nI 0), .ref q1, .ref q2, .ref q3, .ref q4, .ref q5, .ref q6, .ref q7, .null])), (q1, .inl (cI, 40, .inl (fun j => nI ((fun _ => 0) j)))), (q2, .inl (cI, 40, .inl (fun _ => 0))), (q3, .inl (cI, 40, .inl (fun _ => 0))), (q4, .inl (cZ, 1600, .inl (fun j => cs_b ((fun _ => false) j)))), (q5, .inl (cZ, 120, .inl (fun j => cs_b ((fun _ => false) j)))), (q6, .inl (cZ, 120, .inl (fun j => cs_b ((fun _ => false) j)))), (q7, .inl (cI, 3, .inl (fun j => nI ((fun _ => 0) j)))), (q8, .inl (cZ, 40, .inl (fun j => cs_b ((fun _ => false) j))))] := hD
  refine va_putF (D := D) (ci := 1) (v := .ref q8) (ty := .array .boolean) (C := RX1) (T := TX1) (N := 9) hx hb hts in_X1 tyX1 tyX1_ok nmX1 hown hK hP hD hS 0 rfl rfl 8 (by decide) (hts _ q170) (fun _ h9 => h9) rfl hin rfl (by decide +kernel) rfl rfl (Nat.le_of_ble_eq_true rfl) dX1_init_65 (fun H locs hP hD hS => ?_)
  have hP : va_P D vwCl [(h0, .inr (1, [.int (nI 0), .ref q1, .ref q2, .ref q3, .ref q4, .ref q5, .ref q6, .ref q7, .ref q8])), (q1, .inl (cI, 40, .inl (fun j => nI ((fun _ => 0) j)))), (q2, .inl (cI, 40, .inl (fun _ => 0))), (q3, .inl (cI, 40, .inl (fun _ => 0))), (q4, .inl (cZ, 1600, .inl (fun j => cs_b ((fun _ => false) j)))), (q5, .inl (cZ, 120, .inl (fun j => cs_b ((fun _ => false) j)))), (q6, .inl (cZ, 120, .inl (fun j => cs_b ((fun _ => false) j)))), (q7, .inl (cI, 3, .inl (fun j => nI ((fun _ => 0) j)))), (q8, .inl (cZ, 40, .inl (fun j => cs_b ((fun _ => false) j))))] H := hP
  have hD : va_D A [(h0, .inr (1, [.int (nI 0), .ref q1, .ref q2, .ref q3, .ref q4, .ref q5, .ref q6, .ref q7, .ref q8])), (q1, .inl (cI, 40, .inl (fun j => nI ((fun _ => 0) j)))), (q2, .inl (cI, 40, .inl (fun _ => 0))), (q3, .inl (cI, 40, .inl (fun _ => 0))), (q4, .inl (cZ, 1600, .inl (fun j => cs_b ((fun _ => false) j)))), (q5, .inl (cZ, 120, .inl (fun j => cs_b ((fun _ => false) j)))), (q6, .inl (cZ, 120, .inl (fun j => cs_b ((fun _ => false) j)))), (q7, .inl (cI, 3, .inl (fun j => nI ((fun _ => 0) j)))), (q8, .inl (cZ, 40, .inl (fun j => cs_b ((fun _ => false) j))))] := hD
  refine W.widen (k := 8) (n := 2003) (by decide) (by decide) ?_
  obtain ⟨ad, ead⟩ : ∃ ad : Nat → Nat, ad = (fun k => [h0, q1, q2, q3, q4, q5, q6, q7, q8].getD k 0) := ⟨_, rfl⟩
  have hP : va_P D vwCl (cs_wM ad cI cZ 0 ((fun _ => 0)) ((fun _ => 0)) ((fun _ => 0)) ((fun _ => false)) ((fun _ => false)) ((fun _ => false)) ((cs_pl 0)) ((fun _ => false))) H := by rw [ead]; exact hP
  have hD : va_D A (cs_wM ad cI cZ 0 ((fun _ => 0)) ((fun _ => 0)) ((fun _ => 0)) ((fun _ => false)) ((fun _ => false)) ((fun _ => false)) ((cs_pl 0)) ((fun _ => false))) := by rw [ead]; exact hD
  have h0a : h0 = ad 0 := by rw [ead]; rfl
  have hl : lv_has ls 2 [(0, .ref (ad 0))] := by rw [← h0a]; exact hl
  refine lv_iconst (v := nI 0) hx hb dX1_init_68 (by decide) ?_
  refine lv_istore_n (lv' := [(1, .int (nI 0)), (0, .ref (ad 0))]) hx hb dX1_init_69 rfl hl (by decide) rfl (fun ls hl => ?_)
  refine cs_initM_place hx hb hml hown hts hA ⟨Nat.zero_le _, Nat.zero_le _⟩ hK (fun pl hpl H locs hP hD hS ls hl => ?_) 3 0 rfl _ rfl _ _ hP hD hS ls (lv_sub hl [1, 0] rfl)
  subst hpl
  exact W.vret hx hb hr (fun t ht hW => ⟨⟨(ad, cI, cZ), rfl, h0a.symm, by rw [ht]; exact hP, va_K.moved hW.alike hK, hD⟩, hS.F ht⟩) hS.2.2 dX1_init_88
end
section
/-! THE CLAIM OUT OF ONE WALK OF THE LAW'S BODY. Your part is whole_start (and what it stands on); all else here is the same for every law, but numbers. -/
def R_law : String := "CausalStoreLaw"
def lw_P (b : Addr) (xs : List Int32) (args : Array Value) (s : State) : Prop := args = #[.ref b] ∧ s.IntsAt b xs ∧ xs.length ≤ 256 ∧ (Jvm.Cond.and given_1 narrow_1).before args s = true
def lw_Q (_ : Array Value) (s : State) (o : Outcome) (t : State) : Prop := o = .returned (some (.int 1)) ∧ Framed s o t [] 600000 7290000
def lw_Z (below : List Frame) (a : Array Value) (s : State) : State → Prop := fun t => ∃ o, t.status = .running ∧ Ended t below o ∧ lw_Q a s o t
/-- the law's own end, with 1 on the stack, nothing written that was there before, its room as the claim has it -/
theorem lw_ret {p : Program} {l : Launch} {e : Env} {s : State} {m : MethodId} {below : List Frame} {meth : Method} {c : Code} {b : Nat} (hx : p.tables.exec = Jvm.exec) (hb : c.code = code) (hr : meth.sig.returnType = ret) (hlocks : meth.locks = false) {pc : Nat} {H : Heap} {ls : Array Slot} (hdg : decode code pc = .ok (.ireturn, 1)) : W p l e room_1 s m #[Value.ref b] below meth c H [] 600000 7290000 (lw_Z below #[Value.ref b] s) (F0 m pc ls [.int 1]) := by
  intro T hT X
  obtain ⟨fs, hret, hrun, hended, hW, hframe⟩ := X.leave (v := some (.int 1)) (hlocks := hlocks) (fun h => by rw [hr] at h; cases h)
  have hmeth' : T.vm.method? m = some meth := X.method'
  refine ⟨T.setFrames fs, ?_, .returned (some (.int 1)), hrun, hended, rfl, ⟨_, rfl⟩, hW, hframe⟩
  jvm_step X.here [X.here.top, hx, hb, hdg, hmeth', hr, ret, narrow_b1]
  (try refine ⟨rfl, ?_⟩); (try refine ⟨rfl, ?_⟩)
  first | (intro acts; rw [hret _ acts rfl rfl rfl]) | rw [hret _ _ rfl rfl rfl]
  exact Steps.refl _
/-- what holds at the law's entry: the machine, the code, the tables' words (any of lw_tbl by 'hts w (by decide +kernel)'), the script of L ints xs at the cell b, what the Statement gives of the start (any of its parts by flat_of_before) -/
def lw_At (p : Program) (s : State) (m : MethodId) (meth : Method) (c : Code) (b L : Nat) (xs : Nat → Int32) : Prop :=
  p.tables.exec = Jvm.exec ∧ c.code = code ∧ meth.sig.returnType = ret ∧ c.maxLocals = 4 ∧ s.vm.findClass R_law = some m.cls ∧ (∀ w ∈ lw_tbl, w.before #[Value.ref b] s = true) ∧ va_X b L xs s s.heap ∧ b < s.heap.size ∧ meth.locks = false ∧ (Jvm.Cond.and given_1 narrow_1).before #[Value.ref b] s = true
theorem cs_inc4 (k : Nat) : nI k + Int32.ofInt 4 = nI (k + 4) := nI_add k 4
section CSL
variable {p : Program} {l : Launch} {e : Env} {R : Room} {s : State} {m : MethodId} {args : Array Value} {below : List Frame} {meth : Method} {c : Code} {H : Heap} {locs : List Loc} {cells slots : Nat} {Q : State → Prop}
variable {cc : ByteArray} {pc : Nat} {ls : Array Slot} {rest : List Value} {D : va_G} {cl : List vw_C} {A : Nat → Prop} {tys : List (ClassId × FieldType)} {w w2 : va_W} {H0 : Heap}
variable {y : MethodName} {wy : List Cond} {rm : Room} {bytes : ByteArray} {maxL nL n index : Nat} {ret : Option FieldType} {Ts : List Cond} {own C : String} {b : Nat} {As st0 : List Value}
theorem cs_sld {L : Nat} {xs : Nat → Int32} {k : Nat} (hexec : p.tables.exec = Jvm.exec) (hb : c.code = cc) (hX : va_X b L xs s H0) (hbl : b < H0.size) (hbA : ¬ A b) (hS : va_S A H0 H locs) (hk : k < L) (hL : L < 2147483648) (hdg : decode cc pc = .ok (.iaload, 1))
    (kk : W p l e R s m args below meth c H locs cells slots Q (F0 m (pc + 1) ls (.int (xs k) :: rest))) : W p l e R s m args below meth c H locs cells slots Q (F0 m pc ls (.int (nI k) :: .ref b :: rest)) := by
  refine va_sld hexec hb hX hbl hbA hS (vp_in_nI hk hL) hdg ?_
  rw [nI_clamp (Nat.lt_trans hk hL)]
  exact kk
/-- a call that changes the world w, with another world w2 beside it -/
theorem cs_callJ {post : Int32 → va_W → Prop} (S : CallFix p m c cc nL s args Ts own) (hM : cs_MW l y wy rm D cl w tys (.ref b :: As) post) (cw : CallW R s args own C index y bytes maxL ret wy rm 0 0 n)
    (hrec : ∃ cell : Cell, H[b]? = some cell ∧ cell.vm.isStatics = false ∧ s.vm.findClass C = some cell.cls)
    (hK : va_K D cl tys s) (hP : va_P D cl w H) (hD : va_D A w) (hP2 : va_P D cl w2 H) (hap : ∀ (i j : Nat) (p q : Nat × va_E), w[i]? = some p → w2[j]? = some q → ¬ p.1 = q.1) (hS : va_S A H0 H locs) (hA : ∀ q, H0.size ≤ q → A q) (hn : As.length = n) (hsize : ls.size = nL) (hst : st0 = As.reverse ++ .ref b :: rest) (hW : (rest.map fun v => v.category).sum ≤ 8) (hdg : decode cc pc = .ok (.invokevirtual index, 3)) (hf : cells ≤ R.cells ∧ slots ≤ R.slots)
    (kk : ∀ (r : Int32) (w' : va_W) (H1 : Heap) (locs1 : List Loc), post r w' → va_P D cl w' H1 → va_D A w' → va_P D cl w2 H1 → (∀ (i j : Nat) (p q : Nat × va_E), w'[i]? = some p → w2[j]? = some q → ¬ p.1 = q.1) → va_S A H0 H1 locs1 → W p l e R s m args below meth c H1 locs1 cells slots Q (F0 m (pc + 3) ls (.int r :: rest))) : W p l e R s m args below meth c H locs cells slots Q (F0 m pc ls st0) := by
  subst hst
  have hF : ∀ q, va_A w H.size q → A q := by
    intro q h
    rcases h with ⟨k, e, h⟩ | h
    · exact hD.2 k _ h
    · exact hA q (Nat.le_trans hS.1 h)
  have hout : ∀ (k : Nat) (q : Nat × va_E), w2[k]? = some q → ¬ va_A w H.size q.1 := by
    intro k q hq h
    rcases h with ⟨k', e', h⟩ | h
    · exact hap k' k (q.1, e') q h hq rfl
    · have := (hP2 k q hq).lt
      omega
  refine va_calli (va_runV (As := As) (rest := rest) S (hM H.size) cw ⟨?_, hrec, ?_⟩ rfl hn hsize rfl (lv_room hW) hdg hf) hS ?_ ?_ ?_
  · intro a U g mk q
    obtain ⟨q0, q1, qP, qK, qD⟩ := q
    exact ⟨q0, q1, qP, va_K.moved (u := U) (U := U.calling g mk a) (Vm.Alike.refl U.vm) qK, qD⟩
  · intro U hU hW
    exact ⟨rfl, by rw [hU], by rw [hU]; exact hP, va_K.moved hW.alike hK, hD.weaken (fun _ _ _ _ => trivial)⟩
  · intro q h1 h2
    exact hF q h2
  · intro q h
    exact hF q h
  · intro r' u t H1 locs1 ht hvm hr hB hz hk hS1
    obtain ⟨hB1, hB2⟩ := hB
    rw [ht] at hB1
    refine kk r' u H1 locs1 hr hB1 (hB2.weaken (fun k q _ h => hF q.1 h)) (hP2.kept (fun k q hq => hk q.1 (hP2 k q hq).lt (hout k q hq))) (fun i j x z hx hz e => hout j z hz (by rw [← e]; exact hB2.2 i x hx)) hS1
end CSL
theorem cs_apart {A : Nat → Prop} {w1 w2 : va_W} (h : va_D A (w1 ++ w2)) : ∀ (i j : Nat) (p q : Nat × va_E), w1[i]? = some p → w2[j]? = some q → ¬ p.1 = q.1 := by
  intro i j p q h1 h2 e
  have hi := (List.getElem?_eq_some_iff.mp h1).1
  have e1 : (w1 ++ w2)[i]? = some p := by rw [List.getElem?_append_left hi]; exact h1
  have e2 : (w1 ++ w2)[w1.length + j]? = some q := by rw [List.getElem?_append_right (Nat.le_add_right _ _), Nat.add_sub_cancel_left]; exact h2
  have := h.1 _ _ p q e1 e2 e
  omega
/-- the head of the law's loop -/
theorem cs_head {L i : Nat} (hL : L ≤ 256) (hi : i ≤ 260) (h : ¬ nI L - nI 4 < nI i) : i + 4 ≤ L := by
  rw [cs_ltT, pk_sub_toInt (by omega) (by omega), nI_toInt (by omega)] at h
  omega
/-- at the start both hold nothing -/
theorem cs_J_0 {bs : Nat → Option Nat} (hbs : ∀ q, q < 18 → bs q = none) : cs_J 0 (fun _ => 0) (fun _ => 0) (fun _ => 0) (fun _ => 0) (fun _ => 0) (fun _ => 0) bs (cs_pl 3) (fun _ => 0) (fun _ => 0) (fun _ => false) (fun _ => false) (fun _ => false) := by
  refine ⟨⟨by omega, fun v => by show 0 < 6; omega, fun v b hv => absurd hv (by omega), fun z hz => ⟨fun v hv => ?_, fun v => ?_, fun v hv => ?_, fun k hk => ?_⟩⟩, fun u hu => ?_, fun u v hu hv => ?_, fun u hu => cs_X_0, fun v b hv => absurd hv (by omega), fun v b h1 h2 h3 => rfl, fun z v hz hv => (cs_x_0 v).symm, fun u v hu hv => (cs_x_0 v).symm⟩
  · exact absurd ((cs_x_0 v).symm.trans hv) (by decide)
  · show cs_x 0 v = true ↔ _
    rw [cs_x_0]
    exact ⟨fun e => absurd e (by decide), fun e => absurd e.1 (by decide)⟩
  · exact absurd ((cs_x_0 v).symm.trans hv) (by decide)
  · show cs_W 0 _ _ _ k (bs (z * 6 + k))
    rw [hbs _ (by omega)]
    exact cs_W_0
  · rcases (show u = 0 ∨ u = 1 ∨ u = 2 by omega) with rfl | rfl | rfl <;> decide
  · exact absurd ((cs_x_0 v).symm.trans hv) (by decide)
end
section
set_option maxHeartbeats 4000000 in
set_option maxRecDepth 100000 in
theorem cl_write {p : Program} {l : Launch} {e : Env} {s : State} {m : MethodId} {below : List Frame} {meth : Method} {c : Code} {Q : State → Prop} {D : va_G} {b L : Nat} {xs : Nat → Int32} {cells slots : Nat} (hx : p.tables.exec = Jvm.exec) (hb : c.code = code) (hml : c.maxLocals = 4) (hown : s.vm.findClass R_law = some m.cls) (hts : ∀ w ∈ lw_all, w.before #[Value.ref b] s = true) (hX : va_X b L xs s s.heap) (hbl : b < s.heap.size) (hcs : cells ≤ room_1.cells ∧ slots ≤ room_1.slots) {ad : Nat → Nat} {cI cJ : ClassId} {ad2 : Nat → Nat} {cI2 cZ : ClassId} (hK1 : va_K D vwCl (cs_tX cI cJ) s) (hK2 : va_K D vwCl (cs_tM cI2 cZ) s) (hL : L ≤ 256) {i : Nat} (hi : i + 4 ≤ L) (hcont : ∀ w1 w2 : va_W, cs_JJ ad cI cJ ad2 cI2 cZ w1 w2 → ∀ (H : Heap) (locs : List Loc), va_P D vwCl w1 H → va_P D vwCl w2 H → va_D (fun q : Nat => s.heap.size ≤ q) w1 → va_D (fun q : Nat => s.heap.size ≤ q) w2 → (∀ (i j : Nat) (p q : Nat × va_E), w1[i]? = some p → w2[j]? = some q → ¬ p.1 = q.1) → va_S (fun q : Nat => s.heap.size ≤ q) s.heap H locs → ∀ ls : Array Slot, lv_has ls 4 [(0, .ref b), (1, .ref (ad 0)), (2, .ref (ad2 0)), (3, .int (nI i))] → W p l e room_1 s m #[Value.ref b] below meth c H locs cells slots Q (F0 m 489 ls [])) :
    ∀ w1 w2 : va_W, cs_JJ ad cI cJ ad2 cI2 cZ w1 w2 → ∀ (H : Heap) (locs : List Loc), va_P D vwCl w1 H → va_P D vwCl w2 H → va_D (fun q : Nat => s.heap.size ≤ q) w1 → va_D (fun q : Nat => s.heap.size ≤ q) w2 → (∀ (i j : Nat) (p q : Nat × va_E), w1[i]? = some p → w2[j]? = some q → ¬ p.1 = q.1) → va_S (fun q : Nat => s.heap.size ≤ q) s.heap H locs → ∀ ls : Array Slot, lv_has ls 4 [(0, .ref b), (1, .ref (ad 0)), (2, .ref (ad2 0)), (3, .int (nI i))] → W p l e room_1 s m #[Value.ref b] below meth c H locs cells slots Q (F0 m 100 ls []) := by
  intro w1 w2 hJJ H locs hP1 hP2 hD1 hD2 hap hS ls hl
  obtain ⟨n, ky, vl, sp, dp, cm, sh, lk, bs, pl, ss, st, ch, cd, nd, cmM, hs, shM, rfl, rfl, hJ⟩ := hJJ
  have hA : ∀ q : Nat, s.heap.size ≤ q → (fun q : Nat => s.heap.size ≤ q) q := fun _ h => h
  have hbA : ¬ (fun q : Nat => s.heap.size ≤ q) b := Nat.not_le.mpr hbl
  obtain ⟨postX, hMX, hNext⟩ := cp_write l D (ad := ad) (cI := cI) (cJ := cJ) (ad2 := ad2) (cI2 := cI2) (cZ := cZ) (vl := vl) (ch := ch) (cd := cd) (shM := shM) hJ (xs (i + 1)) (xs (i + 2)) (xs (i + 3))
  refine lv_aload_n hx hb dL_law_100 rfl (lv_at hl 1 rfl) ?_
  refine lv_aload_n hx hb dL_law_101 rfl (lv_at hl 0 rfl) ?_
  refine lv_iload_n hx hb dL_law_102 rfl (lv_at hl 3 rfl) ?_
  refine lv_iconst (v := nI 1) hx hb dL_law_103 (by decide) ?_
  refine cs_iadd hx hb dL_law_104 ?_
  refine cs_sld (A := (fun q : Nat => s.heap.size ≤ q)) (k := i + 1) hx hb hX hbl hbA hS (by omega) (by omega) dL_law_105 ?_
  refine lv_aload_n hx hb dL_law_106 rfl (lv_at hl 0 rfl) ?_
  refine lv_iload_n hx hb dL_law_107 rfl (lv_at hl 3 rfl) ?_
  refine lv_iconst (v := nI 2) hx hb dL_law_108 (by decide) ?_
  refine cs_iadd hx hb dL_law_109 ?_
  refine cs_sld (A := (fun q : Nat => s.heap.size ≤ q)) (k := i + 2) hx hb hX hbl hbA hS (by omega) (by omega) dL_law_110 ?_
  refine lv_aload_n hx hb dL_law_111 rfl (lv_at hl 0 rfl) ?_
  refine lv_iload_n hx hb dL_law_112 rfl (lv_at hl 3 rfl) ?_
  refine lv_iconst (v := nI 3) hx hb dL_law_113 (by decide) ?_
  refine cs_iadd hx hb dL_law_114 ?_
  refine cs_sld (A := (fun q : Nat => s.heap.size ≤ q)) (k := i + 3) hx hb hX hbl hbA hS (by omega) (by omega) dL_law_115 ?_
  refine cs_callJ (C := RX0) (As := [.int (xs (i + 1)), .int (xs (i + 2)), .int (xs (i + 3))]) (rest := []) ⟨hx, hb, hml, hown, hts⟩ hMX (cwV 3 hts (lw_V q67 q68 q69 q12 q70) rfl rfl rfl (by decide +kernel) ⟨Nat.le_of_ble_eq_true rfl, Nat.le_of_ble_eq_true rfl⟩) (va_recv hK1 hP1 (ci := 0) (q0 := 0) rfl rfl) hK1 hP1 hD1 hP2 hap hS hA rfl hl.1 rfl (Nat.le_of_ble_eq_true rfl) dL_law_116 hcs (fun r w1 H locs hq hP1 hD1 hP2 hap hS => ?_)
  obtain ⟨postM, hMM, hEnd⟩ := hNext r w1 hq
  refine lv_aload_n hx hb dL_law_119 rfl (lv_at hl 2 rfl) ?_
  refine lv_aload_n hx hb dL_law_120 rfl (lv_at hl 0 rfl) ?_
  refine lv_iload_n hx hb dL_law_121 rfl (lv_at hl 3 rfl) ?_
  refine lv_iconst (v := nI 1) hx hb dL_law_122 (by decide) ?_
  refine cs_iadd hx hb dL_law_123 ?_
  refine cs_sld (A := (fun q : Nat => s.heap.size ≤ q)) (k := i + 1) hx hb hX hbl hbA hS (by omega) (by omega) dL_law_124 ?_
  refine lv_aload_n hx hb dL_law_125 rfl (lv_at hl 0 rfl) ?_
  refine lv_iload_n hx hb dL_law_126 rfl (lv_at hl 3 rfl) ?_
  refine lv_iconst (v := nI 2) hx hb dL_law_127 (by decide) ?_
  refine cs_iadd hx hb dL_law_128 ?_
  refine cs_sld (A := (fun q : Nat => s.heap.size ≤ q)) (k := i + 2) hx hb hX hbl hbA hS (by omega) (by omega) dL_law_129 ?_
  refine lv_aload_n hx hb dL_law_130 rfl (lv_at hl 0 rfl) ?_
  refine lv_iload_n hx hb dL_law_131 rfl (lv_at hl 3 rfl) ?_
  refine lv_iconst (v := nI 3) hx hb dL_law_132 (by decide) ?_
  refine cs_iadd hx hb dL_law_133 ?_
  refine cs_sld (A := (fun q : Nat => s.heap.size ≤ q)) (k := i + 3) hx hb hX hbl hbA hS (by omega) (by omega) dL_law_134 ?_
  refine cs_callJ (C := RX1) (As := [.int (xs (i + 1)), .int (xs (i + 2)), .int (xs (i + 3))]) (rest := [.int r]) ⟨hx, hb, hml, hown, hts⟩ hMM (cwV 3 hts (lw_V q191 q192 q193 q13 q194) rfl rfl rfl (by decide +kernel) ⟨Nat.le_of_ble_eq_true rfl, Nat.le_of_ble_eq_true rfl⟩) (va_recv hK2 hP2 (ci := 1) (q0 := 0) rfl rfl) hK2 hP2 hD2 hP1 (fun i j x z h1 h2 h3 => hap j i z x h2 h1 h3.symm) hS hA rfl hl.1 rfl (Nat.le_of_ble_eq_true rfl) dL_law_135 hcs (fun r2 w2 H locs hq2 hP2 hD2 hP1 hap2 hS => ?_)
  obtain ⟨hrr, hJJ⟩ := hEnd r2 w2 hq2
  refine lv_icmp_eq (tgt := 489) hx hb dL_law_138 (by decide) (fun _ => ?_) (fun h => absurd hrr h)
  exact hcont w1 w2 hJJ H locs hP1 hP2 hD1 hD2 (fun i j x z h1 h2 h3 => hap2 j i z x h2 h1 h3.symm) hS ls hl

set_option maxHeartbeats 4000000 in
set_option maxRecDepth 100000 in
theorem cl_read {p : Program} {l : Launch} {e : Env} {s : State} {m : MethodId} {below : List Frame} {meth : Method} {c : Code} {Q : State → Prop} {D : va_G} {b L : Nat} {xs : Nat → Int32} {cells slots : Nat} (hx : p.tables.exec = Jvm.exec) (hb : c.code = code) (hml : c.maxLocals = 4) (hown : s.vm.findClass R_law = some m.cls) (hts : ∀ w ∈ lw_all, w.before #[Value.ref b] s = true) (hX : va_X b L xs s s.heap) (hbl : b < s.heap.size) (hcs : cells ≤ room_1.cells ∧ slots ≤ room_1.slots) {ad : Nat → Nat} {cI cJ : ClassId} {ad2 : Nat → Nat} {cI2 cZ : ClassId} (hK1 : va_K D vwCl (cs_tX cI cJ) s) (hK2 : va_K D vwCl (cs_tM cI2 cZ) s) (hL : L ≤ 256) {i : Nat} (hi : i + 4 ≤ L) (hcont : ∀ w1 w2 : va_W, cs_JJ ad cI cJ ad2 cI2 cZ w1 w2 → ∀ (H : Heap) (locs : List Loc), va_P D vwCl w1 H → va_P D vwCl w2 H → va_D (fun q : Nat => s.heap.size ≤ q) w1 → va_D (fun q : Nat => s.heap.size ≤ q) w2 → (∀ (i j : Nat) (p q : Nat × va_E), w1[i]? = some p → w2[j]? = some q → ¬ p.1 = q.1) → va_S (fun q : Nat => s.heap.size ≤ q) s.heap H locs → ∀ ls : Array Slot, lv_has ls 4 [(0, .ref b), (1, .ref (ad 0)), (2, .ref (ad2 0)), (3, .int (nI i))] → W p l e room_1 s m #[Value.ref b] below meth c H locs cells slots Q (F0 m 489 ls [])) :
    ∀ w1 w2 : va_W, cs_JJ ad cI cJ ad2 cI2 cZ w1 w2 → ∀ (H : Heap) (locs : List Loc), va_P D vwCl w1 H → va_P D vwCl w2 H → va_D (fun q : Nat => s.heap.size ≤ q) w1 → va_D (fun q : Nat => s.heap.size ≤ q) w2 → (∀ (i j : Nat) (p q : Nat × va_E), w1[i]? = some p → w2[j]? = some q → ¬ p.1 = q.1) → va_S (fun q : Nat => s.heap.size ≤ q) s.heap H locs → ∀ ls : Array Slot, lv_has ls 4 [(0, .ref b), (1, .ref (ad 0)), (2, .ref (ad2 0)), (3, .int (nI i))] → W p l e room_1 s m #[Value.ref b] below meth c H locs cells slots Q (F0 m 143 ls []) := by
  intro w1 w2 hJJ H locs hP1 hP2 hD1 hD2 hap hS ls hl
  obtain ⟨n, ky, vl, sp, dp, cm, sh, lk, bs, pl, ss, st, ch, cd, nd, cmM, hs, shM, rfl, rfl, hJ⟩ := hJJ
  have hA : ∀ q : Nat, s.heap.size ≤ q → (fun q : Nat => s.heap.size ≤ q) q := fun _ h => h
  have hbA : ¬ (fun q : Nat => s.heap.size ≤ q) b := Nat.not_le.mpr hbl
  obtain ⟨postX, hMX, hNext⟩ := cp_read l D (ad := ad) (cI := cI) (cJ := cJ) (ad2 := ad2) (cI2 := cI2) (cZ := cZ) (vl := vl) (ch := ch) (cd := cd) (shM := shM) hJ (xs (i + 1)) (xs (i + 2))
  refine lv_aload_n hx hb dL_law_143 rfl (lv_at hl 1 rfl) ?_
  refine lv_aload_n hx hb dL_law_144 rfl (lv_at hl 0 rfl) ?_
  refine lv_iload_n hx hb dL_law_145 rfl (lv_at hl 3 rfl) ?_
  refine lv_iconst (v := nI 1) hx hb dL_law_146 (by decide) ?_
  refine cs_iadd hx hb dL_law_147 ?_
  refine cs_sld (A := (fun q : Nat => s.heap.size ≤ q)) (k := i + 1) hx hb hX hbl hbA hS (by omega) (by omega) dL_law_148 ?_
  refine lv_aload_n hx hb dL_law_149 rfl (lv_at hl 0 rfl) ?_
  refine lv_iload_n hx hb dL_law_150 rfl (lv_at hl 3 rfl) ?_
  refine lv_iconst (v := nI 2) hx hb dL_law_151 (by decide) ?_
  refine cs_iadd hx hb dL_law_152 ?_
  refine cs_sld (A := (fun q : Nat => s.heap.size ≤ q)) (k := i + 2) hx hb hX hbl hbA hS (by omega) (by omega) dL_law_153 ?_
  refine cs_callJ (C := RX0) (As := [.int (xs (i + 1)), .int (xs (i + 2))]) (rest := []) ⟨hx, hb, hml, hown, hts⟩ hMX (cwV 2 hts (lw_V q101 q102 q103 q12 q104) rfl rfl rfl (by decide +kernel) ⟨Nat.le_of_ble_eq_true rfl, Nat.le_of_ble_eq_true rfl⟩) (va_recv hK1 hP1 (ci := 0) (q0 := 0) rfl rfl) hK1 hP1 hD1 hP2 hap hS hA rfl hl.1 rfl (Nat.le_of_ble_eq_true rfl) dL_law_154 hcs (fun r w1 H locs hq hP1 hD1 hP2 hap hS => ?_)
  obtain ⟨postM, hMM, hEnd⟩ := hNext r w1 hq
  refine lv_aload_n hx hb dL_law_157 rfl (lv_at hl 2 rfl) ?_
  refine lv_aload_n hx hb dL_law_158 rfl (lv_at hl 0 rfl) ?_
  refine lv_iload_n hx hb dL_law_159 rfl (lv_at hl 3 rfl) ?_
  refine lv_iconst (v := nI 1) hx hb dL_law_160 (by decide) ?_
  refine cs_iadd hx hb dL_law_161 ?_
  refine cs_sld (A := (fun q : Nat => s.heap.size ≤ q)) (k := i + 1) hx hb hX hbl hbA hS (by omega) (by omega) dL_law_162 ?_
  refine lv_aload_n hx hb dL_law_163 rfl (lv_at hl 0 rfl) ?_
  refine lv_iload_n hx hb dL_law_164 rfl (lv_at hl 3 rfl) ?_
  refine lv_iconst (v := nI 2) hx hb dL_law_165 (by decide) ?_
  refine cs_iadd hx hb dL_law_166 ?_
  refine cs_sld (A := (fun q : Nat => s.heap.size ≤ q)) (k := i + 2) hx hb hX hbl hbA hS (by omega) (by omega) dL_law_167 ?_
  refine cs_callJ (C := RX1) (As := [.int (xs (i + 1)), .int (xs (i + 2))]) (rest := [.int r]) ⟨hx, hb, hml, hown, hts⟩ hMM (cwV 2 hts (lw_V q203 q204 q205 q13 q206) rfl rfl rfl (by decide +kernel) ⟨Nat.le_of_ble_eq_true rfl, Nat.le_of_ble_eq_true rfl⟩) (va_recv hK2 hP2 (ci := 1) (q0 := 0) rfl rfl) hK2 hP2 hD2 hP1 (fun i j x z h1 h2 h3 => hap j i z x h2 h1 h3.symm) hS hA rfl hl.1 rfl (Nat.le_of_ble_eq_true rfl) dL_law_168 hcs (fun r2 w2 H locs hq2 hP2 hD2 hP1 hap2 hS => ?_)
  obtain ⟨hrr, hJJ⟩ := hEnd r2 w2 hq2
  refine lv_icmp_eq (tgt := 489) hx hb dL_law_171 (by decide) (fun _ => ?_) (fun h => absurd hrr h)
  exact hcont w1 w2 hJJ H locs hP1 hP2 hD1 hD2 (fun i j x z h1 h2 h3 => hap2 j i z x h2 h1 h3.symm) hS ls hl

set_option maxHeartbeats 4000000 in
set_option maxRecDepth 100000 in
theorem cl_move {p : Program} {l : Launch} {e : Env} {s : State} {m : MethodId} {below : List Frame} {meth : Method} {c : Code} {Q : State → Prop} {D : va_G} {b L : Nat} {xs : Nat → Int32} {cells slots : Nat} (hx : p.tables.exec = Jvm.exec) (hb : c.code = code) (hml : c.maxLocals = 4) (hown : s.vm.findClass R_law = some m.cls) (hts : ∀ w ∈ lw_all, w.before #[Value.ref b] s = true) (hX : va_X b L xs s s.heap) (hbl : b < s.heap.size) (hcs : cells ≤ room_1.cells ∧ slots ≤ room_1.slots) {ad : Nat → Nat} {cI cJ : ClassId} {ad2 : Nat → Nat} {cI2 cZ : ClassId} (hK1 : va_K D vwCl (cs_tX cI cJ) s) (hK2 : va_K D vwCl (cs_tM cI2 cZ) s) (hL : L ≤ 256) {i : Nat} (hi : i + 4 ≤ L) (hcont : ∀ w1 w2 : va_W, cs_JJ ad cI cJ ad2 cI2 cZ w1 w2 → ∀ (H : Heap) (locs : List Loc), va_P D vwCl w1 H → va_P D vwCl w2 H → va_D (fun q : Nat => s.heap.size ≤ q) w1 → va_D (fun q : Nat => s.heap.size ≤ q) w2 → (∀ (i j : Nat) (p q : Nat × va_E), w1[i]? = some p → w2[j]? = some q → ¬ p.1 = q.1) → va_S (fun q : Nat => s.heap.size ≤ q) s.heap H locs → ∀ ls : Array Slot, lv_has ls 4 [(0, .ref b), (1, .ref (ad 0)), (2, .ref (ad2 0)), (3, .int (nI i))] → W p l e room_1 s m #[Value.ref b] below meth c H locs cells slots Q (F0 m 489 ls [])) :
    ∀ w1 w2 : va_W, cs_JJ ad cI cJ ad2 cI2 cZ w1 w2 → ∀ (H : Heap) (locs : List Loc), va_P D vwCl w1 H → va_P D vwCl w2 H → va_D (fun q : Nat => s.heap.size ≤ q) w1 → va_D (fun q : Nat => s.heap.size ≤ q) w2 → (∀ (i j : Nat) (p q : Nat × va_E), w1[i]? = some p → w2[j]? = some q → ¬ p.1 = q.1) → va_S (fun q : Nat => s.heap.size ≤ q) s.heap H locs → ∀ ls : Array Slot, lv_has ls 4 [(0, .ref b), (1, .ref (ad 0)), (2, .ref (ad2 0)), (3, .int (nI i))] → W p l e room_1 s m #[Value.ref b] below meth c H locs cells slots Q (F0 m 176 ls []) := by
  intro w1 w2 hJJ H locs hP1 hP2 hD1 hD2 hap hS ls hl
  obtain ⟨n, ky, vl, sp, dp, cm, sh, lk, bs, pl, ss, st, ch, cd, nd, cmM, hs, shM, rfl, rfl, hJ⟩ := hJJ
  have hA : ∀ q : Nat, s.heap.size ≤ q → (fun q : Nat => s.heap.size ≤ q) q := fun _ h => h
  have hbA : ¬ (fun q : Nat => s.heap.size ≤ q) b := Nat.not_le.mpr hbl
  obtain ⟨postX, hMX, hNext⟩ := cp_move l D (ad := ad) (cI := cI) (cJ := cJ) (ad2 := ad2) (cI2 := cI2) (cZ := cZ) (vl := vl) (ch := ch) (cd := cd) (shM := shM) hJ (xs (i + 1)) (xs (i + 2))
  refine lv_aload_n hx hb dL_law_176 rfl (lv_at hl 1 rfl) ?_
  refine lv_aload_n hx hb dL_law_177 rfl (lv_at hl 0 rfl) ?_
  refine lv_iload_n hx hb dL_law_178 rfl (lv_at hl 3 rfl) ?_
  refine lv_iconst (v := nI 1) hx hb dL_law_179 (by decide) ?_
  refine cs_iadd hx hb dL_law_180 ?_
  refine cs_sld (A := (fun q : Nat => s.heap.size ≤ q)) (k := i + 1) hx hb hX hbl hbA hS (by omega) (by omega) dL_law_181 ?_
  refine lv_aload_n hx hb dL_law_182 rfl (lv_at hl 0 rfl) ?_
  refine lv_iload_n hx hb dL_law_183 rfl (lv_at hl 3 rfl) ?_
  refine lv_iconst (v := nI 2) hx hb dL_law_184 (by decide) ?_
  refine cs_iadd hx hb dL_law_185 ?_
  refine cs_sld (A := (fun q : Nat => s.heap.size ≤ q)) (k := i + 2) hx hb hX hbl hbA hS (by omega) (by omega) dL_law_186 ?_
  refine cs_callJ (C := RX0) (As := [.int (xs (i + 1)), .int (xs (i + 2))]) (rest := []) ⟨hx, hb, hml, hown, hts⟩ hMX (cwV 2 hts (lw_V q105 q106 q107 q12 q108) rfl rfl rfl (by decide +kernel) ⟨Nat.le_of_ble_eq_true rfl, Nat.le_of_ble_eq_true rfl⟩) (va_recv hK1 hP1 (ci := 0) (q0 := 0) rfl rfl) hK1 hP1 hD1 hP2 hap hS hA rfl hl.1 rfl (Nat.le_of_ble_eq_true rfl) dL_law_187 hcs (fun r w1 H locs hq hP1 hD1 hP2 hap hS => ?_)
  obtain ⟨postM, hMM, hEnd⟩ := hNext r w1 hq
  refine lv_aload_n hx hb dL_law_190 rfl (lv_at hl 2 rfl) ?_
  refine lv_aload_n hx hb dL_law_191 rfl (lv_at hl 0 rfl) ?_
  refine lv_iload_n hx hb dL_law_192 rfl (lv_at hl 3 rfl) ?_
  refine lv_iconst (v := nI 1) hx hb dL_law_193 (by decide) ?_
  refine cs_iadd hx hb dL_law_194 ?_
  refine cs_sld (A := (fun q : Nat => s.heap.size ≤ q)) (k := i + 1) hx hb hX hbl hbA hS (by omega) (by omega) dL_law_195 ?_
  refine lv_aload_n hx hb dL_law_196 rfl (lv_at hl 0 rfl) ?_
  refine lv_iload_n hx hb dL_law_197 rfl (lv_at hl 3 rfl) ?_
  refine lv_iconst (v := nI 2) hx hb dL_law_198 (by decide) ?_
  refine cs_iadd hx hb dL_law_199 ?_
  refine cs_sld (A := (fun q : Nat => s.heap.size ≤ q)) (k := i + 2) hx hb hX hbl hbA hS (by omega) (by omega) dL_law_200 ?_
  refine cs_callJ (C := RX1) (As := [.int (xs (i + 1)), .int (xs (i + 2))]) (rest := [.int r]) ⟨hx, hb, hml, hown, hts⟩ hMM (cwV 2 hts (lw_V q219 q220 q221 q13 q222) rfl rfl rfl (by decide +kernel) ⟨Nat.le_of_ble_eq_true rfl, Nat.le_of_ble_eq_true rfl⟩) (va_recv hK2 hP2 (ci := 1) (q0 := 0) rfl rfl) hK2 hP2 hD2 hP1 (fun i j x z h1 h2 h3 => hap j i z x h2 h1 h3.symm) hS hA rfl hl.1 rfl (Nat.le_of_ble_eq_true rfl) dL_law_201 hcs (fun r2 w2 H locs hq2 hP2 hD2 hP1 hap2 hS => ?_)
  obtain ⟨hrr, hJJ⟩ := hEnd r2 w2 hq2
  refine lv_icmp_eq (tgt := 489) hx hb dL_law_204 (by decide) (fun _ => ?_) (fun h => absurd hrr h)
  exact hcont w1 w2 hJJ H locs hP1 hP2 hD1 hD2 (fun i j x z h1 h2 h3 => hap2 j i z x h2 h1 h3.symm) hS ls hl

set_option maxHeartbeats 4000000 in
set_option maxRecDepth 100000 in
theorem cl_deliver {p : Program} {l : Launch} {e : Env} {s : State} {m : MethodId} {below : List Frame} {meth : Method} {c : Code} {Q : State → Prop} {D : va_G} {b L : Nat} {xs : Nat → Int32} {cells slots : Nat} (hx : p.tables.exec = Jvm.exec) (hb : c.code = code) (hml : c.maxLocals = 4) (hown : s.vm.findClass R_law = some m.cls) (hts : ∀ w ∈ lw_all, w.before #[Value.ref b] s = true) (hX : va_X b L xs s s.heap) (hbl : b < s.heap.size) (hcs : cells ≤ room_1.cells ∧ slots ≤ room_1.slots) {ad : Nat → Nat} {cI cJ : ClassId} {ad2 : Nat → Nat} {cI2 cZ : ClassId} (hK1 : va_K D vwCl (cs_tX cI cJ) s) (hK2 : va_K D vwCl (cs_tM cI2 cZ) s) (hL : L ≤ 256) {i : Nat} (hi : i + 4 ≤ L) (hcont : ∀ w1 w2 : va_W, cs_JJ ad cI cJ ad2 cI2 cZ w1 w2 → ∀ (H : Heap) (locs : List Loc), va_P D vwCl w1 H → va_P D vwCl w2 H → va_D (fun q : Nat => s.heap.size ≤ q) w1 → va_D (fun q : Nat => s.heap.size ≤ q) w2 → (∀ (i j : Nat) (p q : Nat × va_E), w1[i]? = some p → w2[j]? = some q → ¬ p.1 = q.1) → va_S (fun q : Nat => s.heap.size ≤ q) s.heap H locs → ∀ ls : Array Slot, lv_has ls 4 [(0, .ref b), (1, .ref (ad 0)), (2, .ref (ad2 0)), (3, .int (nI i))] → W p l e room_1 s m #[Value.ref b] below meth c H locs cells slots Q (F0 m 489 ls [])) :
    ∀ w1 w2 : va_W, cs_JJ ad cI cJ ad2 cI2 cZ w1 w2 → ∀ (H : Heap) (locs : List Loc), va_P D vwCl w1 H → va_P D vwCl w2 H → va_D (fun q : Nat => s.heap.size ≤ q) w1 → va_D (fun q : Nat => s.heap.size ≤ q) w2 → (∀ (i j : Nat) (p q : Nat × va_E), w1[i]? = some p → w2[j]? = some q → ¬ p.1 = q.1) → va_S (fun q : Nat => s.heap.size ≤ q) s.heap H locs → ∀ ls : Array Slot, lv_has ls 4 [(0, .ref b), (1, .ref (ad 0)), (2, .ref (ad2 0)), (3, .int (nI i))] → W p l e room_1 s m #[Value.ref b] below meth c H locs cells slots Q (F0 m 209 ls []) := by
  intro w1 w2 hJJ H locs hP1 hP2 hD1 hD2 hap hS ls hl
  obtain ⟨n, ky, vl, sp, dp, cm, sh, lk, bs, pl, ss, st, ch, cd, nd, cmM, hs, shM, rfl, rfl, hJ⟩ := hJJ
  have hA : ∀ q : Nat, s.heap.size ≤ q → (fun q : Nat => s.heap.size ≤ q) q := fun _ h => h
  have hbA : ¬ (fun q : Nat => s.heap.size ≤ q) b := Nat.not_le.mpr hbl
  obtain ⟨postX, hMX, hNext⟩ := cp_deliver l D (ad := ad) (cI := cI) (cJ := cJ) (ad2 := ad2) (cI2 := cI2) (cZ := cZ) (vl := vl) (ch := ch) (cd := cd) (shM := shM) hJ (xs (i + 1)) (xs (i + 2))
  refine lv_aload_n hx hb dL_law_209 rfl (lv_at hl 1 rfl) ?_
  refine lv_aload_n hx hb dL_law_210 rfl (lv_at hl 0 rfl) ?_
  refine lv_iload_n hx hb dL_law_211 rfl (lv_at hl 3 rfl) ?_
  refine lv_iconst (v := nI 1) hx hb dL_law_212 (by decide) ?_
  refine cs_iadd hx hb dL_law_213 ?_
  refine cs_sld (A := (fun q : Nat => s.heap.size ≤ q)) (k := i + 1) hx hb hX hbl hbA hS (by omega) (by omega) dL_law_214 ?_
  refine lv_aload_n hx hb dL_law_215 rfl (lv_at hl 0 rfl) ?_
  refine lv_iload_n hx hb dL_law_216 rfl (lv_at hl 3 rfl) ?_
  refine lv_iconst (v := nI 2) hx hb dL_law_217 (by decide) ?_
  refine cs_iadd hx hb dL_law_218 ?_
  refine cs_sld (A := (fun q : Nat => s.heap.size ≤ q)) (k := i + 2) hx hb hX hbl hbA hS (by omega) (by omega) dL_law_219 ?_
  refine cs_callJ (C := RX0) (As := [.int (xs (i + 1)), .int (xs (i + 2))]) (rest := []) ⟨hx, hb, hml, hown, hts⟩ hMX (cwV 2 hts (lw_V q112 q113 q114 q12 q115) rfl rfl rfl (by decide +kernel) ⟨Nat.le_of_ble_eq_true rfl, Nat.le_of_ble_eq_true rfl⟩) (va_recv hK1 hP1 (ci := 0) (q0 := 0) rfl rfl) hK1 hP1 hD1 hP2 hap hS hA rfl hl.1 rfl (Nat.le_of_ble_eq_true rfl) dL_law_220 hcs (fun r w1 H locs hq hP1 hD1 hP2 hap hS => ?_)
  obtain ⟨postM, hMM, hEnd⟩ := hNext r w1 hq
  refine lv_aload_n hx hb dL_law_223 rfl (lv_at hl 2 rfl) ?_
  refine lv_aload_n hx hb dL_law_224 rfl (lv_at hl 0 rfl) ?_
  refine lv_iload_n hx hb dL_law_225 rfl (lv_at hl 3 rfl) ?_
  refine lv_iconst (v := nI 1) hx hb dL_law_226 (by decide) ?_
  refine cs_iadd hx hb dL_law_227 ?_
  refine cs_sld (A := (fun q : Nat => s.heap.size ≤ q)) (k := i + 1) hx hb hX hbl hbA hS (by omega) (by omega) dL_law_228 ?_
  refine lv_aload_n hx hb dL_law_229 rfl (lv_at hl 0 rfl) ?_
  refine lv_iload_n hx hb dL_law_230 rfl (lv_at hl 3 rfl) ?_
  refine lv_iconst (v := nI 2) hx hb dL_law_231 (by decide) ?_
  refine cs_iadd hx hb dL_law_232 ?_
  refine cs_sld (A := (fun q : Nat => s.heap.size ≤ q)) (k := i + 2) hx hb hX hbl hbA hS (by omega) (by omega) dL_law_233 ?_
  refine cs_callJ (C := RX1) (As := [.int (xs (i + 1)), .int (xs (i + 2))]) (rest := [.int r]) ⟨hx, hb, hml, hown, hts⟩ hMM (cwV 2 hts (lw_V q223 q224 q225 q13 q226) rfl rfl rfl (by decide +kernel) ⟨Nat.le_of_ble_eq_true rfl, Nat.le_of_ble_eq_true rfl⟩) (va_recv hK2 hP2 (ci := 1) (q0 := 0) rfl rfl) hK2 hP2 hD2 hP1 (fun i j x z h1 h2 h3 => hap j i z x h2 h1 h3.symm) hS hA rfl hl.1 rfl (Nat.le_of_ble_eq_true rfl) dL_law_234 hcs (fun r2 w2 H locs hq2 hP2 hD2 hP1 hap2 hS => ?_)
  obtain ⟨hrr, hJJ⟩ := hEnd r2 w2 hq2
  refine lv_icmp_eq (tgt := 489) hx hb dL_law_237 (by decide) (fun _ => ?_) (fun h => absurd hrr h)
  exact hcont w1 w2 hJJ H locs hP1 hP2 hD1 hD2 (fun i j x z h1 h2 h3 => hap2 j i z x h2 h1 h3.symm) hS ls hl

set_option maxHeartbeats 4000000 in
set_option maxRecDepth 100000 in
theorem cl_deliverAll {p : Program} {l : Launch} {e : Env} {s : State} {m : MethodId} {below : List Frame} {meth : Method} {c : Code} {Q : State → Prop} {D : va_G} {b L : Nat} {xs : Nat → Int32} {cells slots : Nat} (hx : p.tables.exec = Jvm.exec) (hb : c.code = code) (hml : c.maxLocals = 4) (hown : s.vm.findClass R_law = some m.cls) (hts : ∀ w ∈ lw_all, w.before #[Value.ref b] s = true) (hX : va_X b L xs s s.heap) (hbl : b < s.heap.size) (hcs : cells ≤ room_1.cells ∧ slots ≤ room_1.slots) {ad : Nat → Nat} {cI cJ : ClassId} {ad2 : Nat → Nat} {cI2 cZ : ClassId} (hK1 : va_K D vwCl (cs_tX cI cJ) s) (hK2 : va_K D vwCl (cs_tM cI2 cZ) s) (hL : L ≤ 256) {i : Nat} (hi : i + 4 ≤ L) (hcont : ∀ w1 w2 : va_W, cs_JJ ad cI cJ ad2 cI2 cZ w1 w2 → ∀ (H : Heap) (locs : List Loc), va_P D vwCl w1 H → va_P D vwCl w2 H → va_D (fun q : Nat => s.heap.size ≤ q) w1 → va_D (fun q : Nat => s.heap.size ≤ q) w2 → (∀ (i j : Nat) (p q : Nat × va_E), w1[i]? = some p → w2[j]? = some q → ¬ p.1 = q.1) → va_S (fun q : Nat => s.heap.size ≤ q) s.heap H locs → ∀ ls : Array Slot, lv_has ls 4 [(0, .ref b), (1, .ref (ad 0)), (2, .ref (ad2 0)), (3, .int (nI i))] → W p l e room_1 s m #[Value.ref b] below meth c H locs cells slots Q (F0 m 489 ls [])) :
    ∀ w1 w2 : va_W, cs_JJ ad cI cJ ad2 cI2 cZ w1 w2 → ∀ (H : Heap) (locs : List Loc), va_P D vwCl w1 H → va_P D vwCl w2 H → va_D (fun q : Nat => s.heap.size ≤ q) w1 → va_D (fun q : Nat => s.heap.size ≤ q) w2 → (∀ (i j : Nat) (p q : Nat × va_E), w1[i]? = some p → w2[j]? = some q → ¬ p.1 = q.1) → va_S (fun q : Nat => s.heap.size ≤ q) s.heap H locs → ∀ ls : Array Slot, lv_has ls 4 [(0, .ref b), (1, .ref (ad 0)), (2, .ref (ad2 0)), (3, .int (nI i))] → W p l e room_1 s m #[Value.ref b] below meth c H locs cells slots Q (F0 m 242 ls []) := by
  intro w1 w2 hJJ H locs hP1 hP2 hD1 hD2 hap hS ls hl
  obtain ⟨n, ky, vl, sp, dp, cm, sh, lk, bs, pl, ss, st, ch, cd, nd, cmM, hs, shM, rfl, rfl, hJ⟩ := hJJ
  have hA : ∀ q : Nat, s.heap.size ≤ q → (fun q : Nat => s.heap.size ≤ q) q := fun _ h => h
  have hbA : ¬ (fun q : Nat => s.heap.size ≤ q) b := Nat.not_le.mpr hbl
  obtain ⟨postX, hMX, hNext⟩ := cp_deliverAll l D (ad := ad) (cI := cI) (cJ := cJ) (ad2 := ad2) (cI2 := cI2) (cZ := cZ) (vl := vl) (ch := ch) (cd := cd) (shM := shM) hJ (xs (i + 1))
  refine lv_aload_n hx hb dL_law_242 rfl (lv_at hl 1 rfl) ?_
  refine lv_aload_n hx hb dL_law_243 rfl (lv_at hl 0 rfl) ?_
  refine lv_iload_n hx hb dL_law_244 rfl (lv_at hl 3 rfl) ?_
  refine lv_iconst (v := nI 1) hx hb dL_law_245 (by decide) ?_
  refine cs_iadd hx hb dL_law_246 ?_
  refine cs_sld (A := (fun q : Nat => s.heap.size ≤ q)) (k := i + 1) hx hb hX hbl hbA hS (by omega) (by omega) dL_law_247 ?_
  refine cs_callJ (C := RX0) (As := [.int (xs (i + 1))]) (rest := []) ⟨hx, hb, hml, hown, hts⟩ hMX (cwV 1 hts (lw_V q120 q121 q122 q12 q123) rfl rfl rfl (by decide +kernel) ⟨Nat.le_of_ble_eq_true rfl, Nat.le_of_ble_eq_true rfl⟩) (va_recv hK1 hP1 (ci := 0) (q0 := 0) rfl rfl) hK1 hP1 hD1 hP2 hap hS hA rfl hl.1 rfl (Nat.le_of_ble_eq_true rfl) dL_law_248 hcs (fun r w1 H locs hq hP1 hD1 hP2 hap hS => ?_)
  obtain ⟨postM, hMM, hEnd⟩ := hNext r w1 hq
  refine lv_aload_n hx hb dL_law_251 rfl (lv_at hl 2 rfl) ?_
  refine lv_aload_n hx hb dL_law_252 rfl (lv_at hl 0 rfl) ?_
  refine lv_iload_n hx hb dL_law_253 rfl (lv_at hl 3 rfl) ?_
  refine lv_iconst (v := nI 1) hx hb dL_law_254 (by decide) ?_
  refine cs_iadd hx hb dL_law_255 ?_
  refine cs_sld (A := (fun q : Nat => s.heap.size ≤ q)) (k := i + 1) hx hb hX hbl hbA hS (by omega) (by omega) dL_law_256 ?_
  refine cs_callJ (C := RX1) (As := [.int (xs (i + 1))]) (rest := [.int r]) ⟨hx, hb, hml, hown, hts⟩ hMM (cwV 1 hts (lw_V q231 q232 q233 q13 q234) rfl rfl rfl (by decide +kernel) ⟨Nat.le_of_ble_eq_true rfl, Nat.le_of_ble_eq_true rfl⟩) (va_recv hK2 hP2 (ci := 1) (q0 := 0) rfl rfl) hK2 hP2 hD2 hP1 (fun i j x z h1 h2 h3 => hap j i z x h2 h1 h3.symm) hS hA rfl hl.1 rfl (Nat.le_of_ble_eq_true rfl) dL_law_257 hcs (fun r2 w2 H locs hq2 hP2 hD2 hP1 hap2 hS => ?_)
  obtain ⟨hrr, hJJ⟩ := hEnd r2 w2 hq2
  refine lv_icmp_eq (tgt := 489) hx hb dL_law_260 (by decide) (fun _ => ?_) (fun h => absurd hrr h)
  exact hcont w1 w2 hJJ H locs hP1 hP2 hD1 hD2 (fun i j x z h1 h2 h3 => hap2 j i z x h2 h1 h3.symm) hS ls hl

set_option maxHeartbeats 4000000 in
set_option maxRecDepth 100000 in
theorem cl_visible {p : Program} {l : Launch} {e : Env} {s : State} {m : MethodId} {below : List Frame} {meth : Method} {c : Code} {Q : State → Prop} {D : va_G} {b L : Nat} {xs : Nat → Int32} {cells slots : Nat} (hx : p.tables.exec = Jvm.exec) (hb : c.code = code) (hml : c.maxLocals = 4) (hown : s.vm.findClass R_law = some m.cls) (hts : ∀ w ∈ lw_all, w.before #[Value.ref b] s = true) (hX : va_X b L xs s s.heap) (hbl : b < s.heap.size) (hcs : cells ≤ room_1.cells ∧ slots ≤ room_1.slots) {ad : Nat → Nat} {cI cJ : ClassId} {ad2 : Nat → Nat} {cI2 cZ : ClassId} (hK1 : va_K D vwCl (cs_tX cI cJ) s) (hK2 : va_K D vwCl (cs_tM cI2 cZ) s) (hL : L ≤ 256) {i : Nat} (hi : i + 4 ≤ L) (hcont : ∀ w1 w2 : va_W, cs_JJ ad cI cJ ad2 cI2 cZ w1 w2 → ∀ (H : Heap) (locs : List Loc), va_P D vwCl w1 H → va_P D vwCl w2 H → va_D (fun q : Nat => s.heap.size ≤ q) w1 → va_D (fun q : Nat => s.heap.size ≤ q) w2 → (∀ (i j : Nat) (p q : Nat × va_E), w1[i]? = some p → w2[j]? = some q → ¬ p.1 = q.1) → va_S (fun q : Nat => s.heap.size ≤ q) s.heap H locs → ∀ ls : Array Slot, lv_has ls 4 [(0, .ref b), (1, .ref (ad 0)), (2, .ref (ad2 0)), (3, .int (nI i))] → W p l e room_1 s m #[Value.ref b] below meth c H locs cells slots Q (F0 m 489 ls [])) :
    ∀ w1 w2 : va_W, cs_JJ ad cI cJ ad2 cI2 cZ w1 w2 → ∀ (H : Heap) (locs : List Loc), va_P D vwCl w1 H → va_P D vwCl w2 H → va_D (fun q : Nat => s.heap.size ≤ q) w1 → va_D (fun q : Nat => s.heap.size ≤ q) w2 → (∀ (i j : Nat) (p q : Nat × va_E), w1[i]? = some p → w2[j]? = some q → ¬ p.1 = q.1) → va_S (fun q : Nat => s.heap.size ≤ q) s.heap H locs → ∀ ls : Array Slot, lv_has ls 4 [(0, .ref b), (1, .ref (ad 0)), (2, .ref (ad2 0)), (3, .int (nI i))] → W p l e room_1 s m #[Value.ref b] below meth c H locs cells slots Q (F0 m 265 ls []) := by
  intro w1 w2 hJJ H locs hP1 hP2 hD1 hD2 hap hS ls hl
  obtain ⟨n, ky, vl, sp, dp, cm, sh, lk, bs, pl, ss, st, ch, cd, nd, cmM, hs, shM, rfl, rfl, hJ⟩ := hJJ
  have hA : ∀ q : Nat, s.heap.size ≤ q → (fun q : Nat => s.heap.size ≤ q) q := fun _ h => h
  have hbA : ¬ (fun q : Nat => s.heap.size ≤ q) b := Nat.not_le.mpr hbl
  obtain ⟨postX, hMX, hNext⟩ := cp_visible l D (ad := ad) (cI := cI) (cJ := cJ) (ad2 := ad2) (cI2 := cI2) (cZ := cZ) (vl := vl) (ch := ch) (cd := cd) (shM := shM) hJ (xs (i + 1)) (xs (i + 2))
  refine lv_aload_n hx hb dL_law_265 rfl (lv_at hl 1 rfl) ?_
  refine lv_aload_n hx hb dL_law_266 rfl (lv_at hl 0 rfl) ?_
  refine lv_iload_n hx hb dL_law_267 rfl (lv_at hl 3 rfl) ?_
  refine lv_iconst (v := nI 1) hx hb dL_law_268 (by decide) ?_
  refine cs_iadd hx hb dL_law_269 ?_
  refine cs_sld (A := (fun q : Nat => s.heap.size ≤ q)) (k := i + 1) hx hb hX hbl hbA hS (by omega) (by omega) dL_law_270 ?_
  refine lv_aload_n hx hb dL_law_271 rfl (lv_at hl 0 rfl) ?_
  refine lv_iload_n hx hb dL_law_272 rfl (lv_at hl 3 rfl) ?_
  refine lv_iconst (v := nI 2) hx hb dL_law_273 (by decide) ?_
  refine cs_iadd hx hb dL_law_274 ?_
  refine cs_sld (A := (fun q : Nat => s.heap.size ≤ q)) (k := i + 2) hx hb hX hbl hbA hS (by omega) (by omega) dL_law_275 ?_
  refine cs_callJ (C := RX0) (As := [.int (xs (i + 1)), .int (xs (i + 2))]) (rest := []) ⟨hx, hb, hml, hown, hts⟩ hMX (cwV 2 hts (lw_V q124 q125 q126 q12 q127) rfl rfl rfl (by decide +kernel) ⟨Nat.le_of_ble_eq_true rfl, Nat.le_of_ble_eq_true rfl⟩) (va_recv hK1 hP1 (ci := 0) (q0 := 0) rfl rfl) hK1 hP1 hD1 hP2 hap hS hA rfl hl.1 rfl (Nat.le_of_ble_eq_true rfl) dL_law_276 hcs (fun r w1 H locs hq hP1 hD1 hP2 hap hS => ?_)
  obtain ⟨postM, hMM, hEnd⟩ := hNext r w1 hq
  refine lv_aload_n hx hb dL_law_279 rfl (lv_at hl 2 rfl) ?_
  refine lv_aload_n hx hb dL_law_280 rfl (lv_at hl 0 rfl) ?_
  refine lv_iload_n hx hb dL_law_281 rfl (lv_at hl 3 rfl) ?_
  refine lv_iconst (v := nI 1) hx hb dL_law_282 (by decide) ?_
  refine cs_iadd hx hb dL_law_283 ?_
  refine cs_sld (A := (fun q : Nat => s.heap.size ≤ q)) (k := i + 1) hx hb hX hbl hbA hS (by omega) (by omega) dL_law_284 ?_
  refine lv_aload_n hx hb dL_law_285 rfl (lv_at hl 0 rfl) ?_
  refine lv_iload_n hx hb dL_law_286 rfl (lv_at hl 3 rfl) ?_
  refine lv_iconst (v := nI 2) hx hb dL_law_287 (by decide) ?_
  refine cs_iadd hx hb dL_law_288 ?_
  refine cs_sld (A := (fun q : Nat => s.heap.size ≤ q)) (k := i + 2) hx hb hX hbl hbA hS (by omega) (by omega) dL_law_289 ?_
  refine cs_callJ (C := RX1) (As := [.int (xs (i + 1)), .int (xs (i + 2))]) (rest := [.int r]) ⟨hx, hb, hml, hown, hts⟩ hMM (cwV 2 hts (lw_V q235 q236 q237 q13 q238) rfl rfl rfl (by decide +kernel) ⟨Nat.le_of_ble_eq_true rfl, Nat.le_of_ble_eq_true rfl⟩) (va_recv hK2 hP2 (ci := 1) (q0 := 0) rfl rfl) hK2 hP2 hD2 hP1 (fun i j x z h1 h2 h3 => hap j i z x h2 h1 h3.symm) hS hA rfl hl.1 rfl (Nat.le_of_ble_eq_true rfl) dL_law_290 hcs (fun r2 w2 H locs hq2 hP2 hD2 hP1 hap2 hS => ?_)
  obtain ⟨hrr, hJJ⟩ := hEnd r2 w2 hq2
  refine lv_icmp_eq (tgt := 489) hx hb dL_law_293 (by decide) (fun _ => ?_) (fun h => absurd hrr h)
  exact hcont w1 w2 hJJ H locs hP1 hP2 hD1 hD2 (fun i j x z h1 h2 h3 => hap2 j i z x h2 h1 h3.symm) hS ls hl

set_option maxHeartbeats 4000000 in
set_option maxRecDepth 100000 in
theorem cl_winner {p : Program} {l : Launch} {e : Env} {s : State} {m : MethodId} {below : List Frame} {meth : Method} {c : Code} {Q : State → Prop} {D : va_G} {b L : Nat} {xs : Nat → Int32} {cells slots : Nat} (hx : p.tables.exec = Jvm.exec) (hb : c.code = code) (hml : c.maxLocals = 4) (hown : s.vm.findClass R_law = some m.cls) (hts : ∀ w ∈ lw_all, w.before #[Value.ref b] s = true) (hX : va_X b L xs s s.heap) (hbl : b < s.heap.size) (hcs : cells ≤ room_1.cells ∧ slots ≤ room_1.slots) {ad : Nat → Nat} {cI cJ : ClassId} {ad2 : Nat → Nat} {cI2 cZ : ClassId} (hK1 : va_K D vwCl (cs_tX cI cJ) s) (hK2 : va_K D vwCl (cs_tM cI2 cZ) s) (hL : L ≤ 256) {i : Nat} (hi : i + 4 ≤ L) (hcont : ∀ w1 w2 : va_W, cs_JJ ad cI cJ ad2 cI2 cZ w1 w2 → ∀ (H : Heap) (locs : List Loc), va_P D vwCl w1 H → va_P D vwCl w2 H → va_D (fun q : Nat => s.heap.size ≤ q) w1 → va_D (fun q : Nat => s.heap.size ≤ q) w2 → (∀ (i j : Nat) (p q : Nat × va_E), w1[i]? = some p → w2[j]? = some q → ¬ p.1 = q.1) → va_S (fun q : Nat => s.heap.size ≤ q) s.heap H locs → ∀ ls : Array Slot, lv_has ls 4 [(0, .ref b), (1, .ref (ad 0)), (2, .ref (ad2 0)), (3, .int (nI i))] → W p l e room_1 s m #[Value.ref b] below meth c H locs cells slots Q (F0 m 489 ls [])) :
    ∀ w1 w2 : va_W, cs_JJ ad cI cJ ad2 cI2 cZ w1 w2 → ∀ (H : Heap) (locs : List Loc), va_P D vwCl w1 H → va_P D vwCl w2 H → va_D (fun q : Nat => s.heap.size ≤ q) w1 → va_D (fun q : Nat => s.heap.size ≤ q) w2 → (∀ (i j : Nat) (p q : Nat × va_E), w1[i]? = some p → w2[j]? = some q → ¬ p.1 = q.1) → va_S (fun q : Nat => s.heap.size ≤ q) s.heap H locs → ∀ ls : Array Slot, lv_has ls 4 [(0, .ref b), (1, .ref (ad 0)), (2, .ref (ad2 0)), (3, .int (nI i))] → W p l e room_1 s m #[Value.ref b] below meth c H locs cells slots Q (F0 m 298 ls []) := by
  intro w1 w2 hJJ H locs hP1 hP2 hD1 hD2 hap hS ls hl
  obtain ⟨n, ky, vl, sp, dp, cm, sh, lk, bs, pl, ss, st, ch, cd, nd, cmM, hs, shM, rfl, rfl, hJ⟩ := hJJ
  have hA : ∀ q : Nat, s.heap.size ≤ q → (fun q : Nat => s.heap.size ≤ q) q := fun _ h => h
  have hbA : ¬ (fun q : Nat => s.heap.size ≤ q) b := Nat.not_le.mpr hbl
  obtain ⟨postX, hMX, hNext⟩ := cp_winner l D (ad := ad) (cI := cI) (cJ := cJ) (ad2 := ad2) (cI2 := cI2) (cZ := cZ) (vl := vl) (ch := ch) (cd := cd) (shM := shM) hJ (xs (i + 1)) (xs (i + 2))
  refine lv_aload_n hx hb dL_law_298 rfl (lv_at hl 1 rfl) ?_
  refine lv_aload_n hx hb dL_law_299 rfl (lv_at hl 0 rfl) ?_
  refine lv_iload_n hx hb dL_law_300 rfl (lv_at hl 3 rfl) ?_
  refine lv_iconst (v := nI 1) hx hb dL_law_301 (by decide) ?_
  refine cs_iadd hx hb dL_law_302 ?_
  refine cs_sld (A := (fun q : Nat => s.heap.size ≤ q)) (k := i + 1) hx hb hX hbl hbA hS (by omega) (by omega) dL_law_303 ?_
  refine lv_aload_n hx hb dL_law_304 rfl (lv_at hl 0 rfl) ?_
  refine lv_iload_n hx hb dL_law_305 rfl (lv_at hl 3 rfl) ?_
  refine lv_iconst (v := nI 2) hx hb dL_law_306 (by decide) ?_
  refine cs_iadd hx hb dL_law_307 ?_
  refine cs_sld (A := (fun q : Nat => s.heap.size ≤ q)) (k := i + 2) hx hb hX hbl hbA hS (by omega) (by omega) dL_law_308 ?_
  refine cs_callJ (C := RX0) (As := [.int (xs (i + 1)), .int (xs (i + 2))]) (rest := []) ⟨hx, hb, hml, hown, hts⟩ hMX (cwV 2 hts (lw_V q128 q129 q130 q12 q131) rfl rfl rfl (by decide +kernel) ⟨Nat.le_of_ble_eq_true rfl, Nat.le_of_ble_eq_true rfl⟩) (va_recv hK1 hP1 (ci := 0) (q0 := 0) rfl rfl) hK1 hP1 hD1 hP2 hap hS hA rfl hl.1 rfl (Nat.le_of_ble_eq_true rfl) dL_law_309 hcs (fun r w1 H locs hq hP1 hD1 hP2 hap hS => ?_)
  obtain ⟨postM, hMM, hEnd⟩ := hNext r w1 hq
  refine lv_aload_n hx hb dL_law_312 rfl (lv_at hl 2 rfl) ?_
  refine lv_aload_n hx hb dL_law_313 rfl (lv_at hl 0 rfl) ?_
  refine lv_iload_n hx hb dL_law_314 rfl (lv_at hl 3 rfl) ?_
  refine lv_iconst (v := nI 1) hx hb dL_law_315 (by decide) ?_
  refine cs_iadd hx hb dL_law_316 ?_
  refine cs_sld (A := (fun q : Nat => s.heap.size ≤ q)) (k := i + 1) hx hb hX hbl hbA hS (by omega) (by omega) dL_law_317 ?_
  refine lv_aload_n hx hb dL_law_318 rfl (lv_at hl 0 rfl) ?_
  refine lv_iload_n hx hb dL_law_319 rfl (lv_at hl 3 rfl) ?_
  refine lv_iconst (v := nI 2) hx hb dL_law_320 (by decide) ?_
  refine cs_iadd hx hb dL_law_321 ?_
  refine cs_sld (A := (fun q : Nat => s.heap.size ≤ q)) (k := i + 2) hx hb hX hbl hbA hS (by omega) (by omega) dL_law_322 ?_
  refine cs_callJ (C := RX1) (As := [.int (xs (i + 1)), .int (xs (i + 2))]) (rest := [.int r]) ⟨hx, hb, hml, hown, hts⟩ hMM (cwV 2 hts (lw_V q239 q208 q209 q13 q210) rfl rfl rfl (by decide +kernel) ⟨Nat.le_of_ble_eq_true rfl, Nat.le_of_ble_eq_true rfl⟩) (va_recv hK2 hP2 (ci := 1) (q0 := 0) rfl rfl) hK2 hP2 hD2 hP1 (fun i j x z h1 h2 h3 => hap j i z x h2 h1 h3.symm) hS hA rfl hl.1 rfl (Nat.le_of_ble_eq_true rfl) dL_law_323 hcs (fun r2 w2 H locs hq2 hP2 hD2 hP1 hap2 hS => ?_)
  obtain ⟨hrr, hJJ⟩ := hEnd r2 w2 hq2
  refine lv_icmp_eq (tgt := 489) hx hb dL_law_326 (by decide) (fun _ => ?_) (fun h => absurd hrr h)
  exact hcont w1 w2 hJJ H locs hP1 hP2 hD1 hD2 (fun i j x z h1 h2 h3 => hap2 j i z x h2 h1 h3.symm) hS ls hl

set_option maxHeartbeats 4000000 in
set_option maxRecDepth 100000 in
theorem cl_value {p : Program} {l : Launch} {e : Env} {s : State} {m : MethodId} {below : List Frame} {meth : Method} {c : Code} {Q : State → Prop} {D : va_G} {b L : Nat} {xs : Nat → Int32} {cells slots : Nat} (hx : p.tables.exec = Jvm.exec) (hb : c.code = code) (hml : c.maxLocals = 4) (hown : s.vm.findClass R_law = some m.cls) (hts : ∀ w ∈ lw_all, w.before #[Value.ref b] s = true) (hX : va_X b L xs s s.heap) (hbl : b < s.heap.size) (hcs : cells ≤ room_1.cells ∧ slots ≤ room_1.slots) {ad : Nat → Nat} {cI cJ : ClassId} {ad2 : Nat → Nat} {cI2 cZ : ClassId} (hK1 : va_K D vwCl (cs_tX cI cJ) s) (hK2 : va_K D vwCl (cs_tM cI2 cZ) s) (hL : L ≤ 256) {i : Nat} (hi : i + 4 ≤ L) (hcont : ∀ w1 w2 : va_W, cs_JJ ad cI cJ ad2 cI2 cZ w1 w2 → ∀ (H : Heap) (locs : List Loc), va_P D vwCl w1 H → va_P D vwCl w2 H → va_D (fun q : Nat => s.heap.size ≤ q) w1 → va_D (fun q : Nat => s.heap.size ≤ q) w2 → (∀ (i j : Nat) (p q : Nat × va_E), w1[i]? = some p → w2[j]? = some q → ¬ p.1 = q.1) → va_S (fun q : Nat => s.heap.size ≤ q) s.heap H locs → ∀ ls : Array Slot, lv_has ls 4 [(0, .ref b), (1, .ref (ad 0)), (2, .ref (ad2 0)), (3, .int (nI i))] → W p l e room_1 s m #[Value.ref b] below meth c H locs cells slots Q (F0 m 489 ls [])) :
    ∀ w1 w2 : va_W, cs_JJ ad cI cJ ad2 cI2 cZ w1 w2 → ∀ (H : Heap) (locs : List Loc), va_P D vwCl w1 H → va_P D vwCl w2 H → va_D (fun q : Nat => s.heap.size ≤ q) w1 → va_D (fun q : Nat => s.heap.size ≤ q) w2 → (∀ (i j : Nat) (p q : Nat × va_E), w1[i]? = some p → w2[j]? = some q → ¬ p.1 = q.1) → va_S (fun q : Nat => s.heap.size ≤ q) s.heap H locs → ∀ ls : Array Slot, lv_has ls 4 [(0, .ref b), (1, .ref (ad 0)), (2, .ref (ad2 0)), (3, .int (nI i))] → W p l e room_1 s m #[Value.ref b] below meth c H locs cells slots Q (F0 m 331 ls []) := by
  intro w1 w2 hJJ H locs hP1 hP2 hD1 hD2 hap hS ls hl
  obtain ⟨n, ky, vl, sp, dp, cm, sh, lk, bs, pl, ss, st, ch, cd, nd, cmM, hs, shM, rfl, rfl, hJ⟩ := hJJ
  have hA : ∀ q : Nat, s.heap.size ≤ q → (fun q : Nat => s.heap.size ≤ q) q := fun _ h => h
  have hbA : ¬ (fun q : Nat => s.heap.size ≤ q) b := Nat.not_le.mpr hbl
  obtain ⟨postX, hMX, hNext⟩ := cp_value l D (ad := ad) (cI := cI) (cJ := cJ) (ad2 := ad2) (cI2 := cI2) (cZ := cZ) (vl := vl) (ch := ch) (cd := cd) (shM := shM) hJ (xs (i + 1))
  refine lv_aload_n hx hb dL_law_331 rfl (lv_at hl 1 rfl) ?_
  refine lv_aload_n hx hb dL_law_332 rfl (lv_at hl 0 rfl) ?_
  refine lv_iload_n hx hb dL_law_333 rfl (lv_at hl 3 rfl) ?_
  refine lv_iconst (v := nI 1) hx hb dL_law_334 (by decide) ?_
  refine cs_iadd hx hb dL_law_335 ?_
  refine cs_sld (A := (fun q : Nat => s.heap.size ≤ q)) (k := i + 1) hx hb hX hbl hbA hS (by omega) (by omega) dL_law_336 ?_
  refine cs_callJ (C := RX0) (As := [.int (xs (i + 1))]) (rest := []) ⟨hx, hb, hml, hown, hts⟩ hMX (cwV 1 hts (lw_V q132 q133 q134 q12 q135) rfl rfl rfl (by decide +kernel) ⟨Nat.le_of_ble_eq_true rfl, Nat.le_of_ble_eq_true rfl⟩) (va_recv hK1 hP1 (ci := 0) (q0 := 0) rfl rfl) hK1 hP1 hD1 hP2 hap hS hA rfl hl.1 rfl (Nat.le_of_ble_eq_true rfl) dL_law_337 hcs (fun r w1 H locs hq hP1 hD1 hP2 hap hS => ?_)
  obtain ⟨postM, hMM, hEnd⟩ := hNext r w1 hq
  refine lv_aload_n hx hb dL_law_340 rfl (lv_at hl 2 rfl) ?_
  refine lv_aload_n hx hb dL_law_341 rfl (lv_at hl 0 rfl) ?_
  refine lv_iload_n hx hb dL_law_342 rfl (lv_at hl 3 rfl) ?_
  refine lv_iconst (v := nI 1) hx hb dL_law_343 (by decide) ?_
  refine cs_iadd hx hb dL_law_344 ?_
  refine cs_sld (A := (fun q : Nat => s.heap.size ≤ q)) (k := i + 1) hx hb hX hbl hbA hS (by omega) (by omega) dL_law_345 ?_
  refine cs_callJ (C := RX1) (As := [.int (xs (i + 1))]) (rest := [.int r]) ⟨hx, hb, hml, hown, hts⟩ hMM (cwV 1 hts (lw_V q240 q241 q242 q13 q243) rfl rfl rfl (by decide +kernel) ⟨Nat.le_of_ble_eq_true rfl, Nat.le_of_ble_eq_true rfl⟩) (va_recv hK2 hP2 (ci := 1) (q0 := 0) rfl rfl) hK2 hP2 hD2 hP1 (fun i j x z h1 h2 h3 => hap j i z x h2 h1 h3.symm) hS hA rfl hl.1 rfl (Nat.le_of_ble_eq_true rfl) dL_law_346 hcs (fun r2 w2 H locs hq2 hP2 hD2 hP1 hap2 hS => ?_)
  obtain ⟨hrr, hJJ⟩ := hEnd r2 w2 hq2
  refine lv_icmp_eq (tgt := 489) hx hb dL_law_349 (by decide) (fun _ => ?_) (fun h => absurd hrr h)
  exact hcont w1 w2 hJJ H locs hP1 hP2 hD1 hD2 (fun i j x z h1 h2 h3 => hap2 j i z x h2 h1 h3.symm) hS ls hl

set_option maxHeartbeats 4000000 in
set_option maxRecDepth 100000 in
theorem cl_stamp {p : Program} {l : Launch} {e : Env} {s : State} {m : MethodId} {below : List Frame} {meth : Method} {c : Code} {Q : State → Prop} {D : va_G} {b L : Nat} {xs : Nat → Int32} {cells slots : Nat} (hx : p.tables.exec = Jvm.exec) (hb : c.code = code) (hml : c.maxLocals = 4) (hown : s.vm.findClass R_law = some m.cls) (hts : ∀ w ∈ lw_all, w.before #[Value.ref b] s = true) (hX : va_X b L xs s s.heap) (hbl : b < s.heap.size) (hcs : cells ≤ room_1.cells ∧ slots ≤ room_1.slots) {ad : Nat → Nat} {cI cJ : ClassId} {ad2 : Nat → Nat} {cI2 cZ : ClassId} (hK1 : va_K D vwCl (cs_tX cI cJ) s) (hK2 : va_K D vwCl (cs_tM cI2 cZ) s) (hL : L ≤ 256) {i : Nat} (hi : i + 4 ≤ L) (hcont : ∀ w1 w2 : va_W, cs_JJ ad cI cJ ad2 cI2 cZ w1 w2 → ∀ (H : Heap) (locs : List Loc), va_P D vwCl w1 H → va_P D vwCl w2 H → va_D (fun q : Nat => s.heap.size ≤ q) w1 → va_D (fun q : Nat => s.heap.size ≤ q) w2 → (∀ (i j : Nat) (p q : Nat × va_E), w1[i]? = some p → w2[j]? = some q → ¬ p.1 = q.1) → va_S (fun q : Nat => s.heap.size ≤ q) s.heap H locs → ∀ ls : Array Slot, lv_has ls 4 [(0, .ref b), (1, .ref (ad 0)), (2, .ref (ad2 0)), (3, .int (nI i))] → W p l e room_1 s m #[Value.ref b] below meth c H locs cells slots Q (F0 m 489 ls [])) :
    ∀ w1 w2 : va_W, cs_JJ ad cI cJ ad2 cI2 cZ w1 w2 → ∀ (H : Heap) (locs : List Loc), va_P D vwCl w1 H → va_P D vwCl w2 H → va_D (fun q : Nat => s.heap.size ≤ q) w1 → va_D (fun q : Nat => s.heap.size ≤ q) w2 → (∀ (i j : Nat) (p q : Nat × va_E), w1[i]? = some p → w2[j]? = some q → ¬ p.1 = q.1) → va_S (fun q : Nat => s.heap.size ≤ q) s.heap H locs → ∀ ls : Array Slot, lv_has ls 4 [(0, .ref b), (1, .ref (ad 0)), (2, .ref (ad2 0)), (3, .int (nI i))] → W p l e room_1 s m #[Value.ref b] below meth c H locs cells slots Q (F0 m 354 ls []) := by
  intro w1 w2 hJJ H locs hP1 hP2 hD1 hD2 hap hS ls hl
  obtain ⟨n, ky, vl, sp, dp, cm, sh, lk, bs, pl, ss, st, ch, cd, nd, cmM, hs, shM, rfl, rfl, hJ⟩ := hJJ
  have hA : ∀ q : Nat, s.heap.size ≤ q → (fun q : Nat => s.heap.size ≤ q) q := fun _ h => h
  have hbA : ¬ (fun q : Nat => s.heap.size ≤ q) b := Nat.not_le.mpr hbl
  obtain ⟨postX, hMX, hNext⟩ := cp_stamp l D (ad := ad) (cI := cI) (cJ := cJ) (ad2 := ad2) (cI2 := cI2) (cZ := cZ) (vl := vl) (ch := ch) (cd := cd) (shM := shM) hJ (xs (i + 1))
  refine lv_aload_n hx hb dL_law_354 rfl (lv_at hl 1 rfl) ?_
  refine lv_aload_n hx hb dL_law_355 rfl (lv_at hl 0 rfl) ?_
  refine lv_iload_n hx hb dL_law_356 rfl (lv_at hl 3 rfl) ?_
  refine lv_iconst (v := nI 1) hx hb dL_law_357 (by decide) ?_
  refine cs_iadd hx hb dL_law_358 ?_
  refine cs_sld (A := (fun q : Nat => s.heap.size ≤ q)) (k := i + 1) hx hb hX hbl hbA hS (by omega) (by omega) dL_law_359 ?_
  refine cs_callJ (C := RX0) (As := [.int (xs (i + 1))]) (rest := []) ⟨hx, hb, hml, hown, hts⟩ hMX (cwV 1 hts (lw_V q136 q137 q138 q12 q139) rfl rfl rfl (by decide +kernel) ⟨Nat.le_of_ble_eq_true rfl, Nat.le_of_ble_eq_true rfl⟩) (va_recv hK1 hP1 (ci := 0) (q0 := 0) rfl rfl) hK1 hP1 hD1 hP2 hap hS hA rfl hl.1 rfl (Nat.le_of_ble_eq_true rfl) dL_law_360 hcs (fun r w1 H locs hq hP1 hD1 hP2 hap hS => ?_)
  obtain ⟨postM, hMM, hEnd⟩ := hNext r w1 hq
  refine lv_aload_n hx hb dL_law_363 rfl (lv_at hl 2 rfl) ?_
  refine lv_aload_n hx hb dL_law_364 rfl (lv_at hl 0 rfl) ?_
  refine lv_iload_n hx hb dL_law_365 rfl (lv_at hl 3 rfl) ?_
  refine lv_iconst (v := nI 1) hx hb dL_law_366 (by decide) ?_
  refine cs_iadd hx hb dL_law_367 ?_
  refine cs_sld (A := (fun q : Nat => s.heap.size ≤ q)) (k := i + 1) hx hb hX hbl hbA hS (by omega) (by omega) dL_law_368 ?_
  refine cs_callJ (C := RX1) (As := [.int (xs (i + 1))]) (rest := [.int r]) ⟨hx, hb, hml, hown, hts⟩ hMM (cwV 1 hts (lw_V q244 q245 q246 q13 q247) rfl rfl rfl (by decide +kernel) ⟨Nat.le_of_ble_eq_true rfl, Nat.le_of_ble_eq_true rfl⟩) (va_recv hK2 hP2 (ci := 1) (q0 := 0) rfl rfl) hK2 hP2 hD2 hP1 (fun i j x z h1 h2 h3 => hap j i z x h2 h1 h3.symm) hS hA rfl hl.1 rfl (Nat.le_of_ble_eq_true rfl) dL_law_369 hcs (fun r2 w2 H locs hq2 hP2 hD2 hP1 hap2 hS => ?_)
  obtain ⟨hrr, hJJ⟩ := hEnd r2 w2 hq2
  refine lv_icmp_eq (tgt := 489) hx hb dL_law_372 (by decide) (fun _ => ?_) (fun h => absurd hrr h)
  exact hcont w1 w2 hJJ H locs hP1 hP2 hD1 hD2 (fun i j x z h1 h2 h3 => hap2 j i z x h2 h1 h3.symm) hS ls hl

set_option maxHeartbeats 4000000 in
set_option maxRecDepth 100000 in
theorem cl_depends {p : Program} {l : Launch} {e : Env} {s : State} {m : MethodId} {below : List Frame} {meth : Method} {c : Code} {Q : State → Prop} {D : va_G} {b L : Nat} {xs : Nat → Int32} {cells slots : Nat} (hx : p.tables.exec = Jvm.exec) (hb : c.code = code) (hml : c.maxLocals = 4) (hown : s.vm.findClass R_law = some m.cls) (hts : ∀ w ∈ lw_all, w.before #[Value.ref b] s = true) (hX : va_X b L xs s s.heap) (hbl : b < s.heap.size) (hcs : cells ≤ room_1.cells ∧ slots ≤ room_1.slots) {ad : Nat → Nat} {cI cJ : ClassId} {ad2 : Nat → Nat} {cI2 cZ : ClassId} (hK1 : va_K D vwCl (cs_tX cI cJ) s) (hK2 : va_K D vwCl (cs_tM cI2 cZ) s) (hL : L ≤ 256) {i : Nat} (hi : i + 4 ≤ L) (hcont : ∀ w1 w2 : va_W, cs_JJ ad cI cJ ad2 cI2 cZ w1 w2 → ∀ (H : Heap) (locs : List Loc), va_P D vwCl w1 H → va_P D vwCl w2 H → va_D (fun q : Nat => s.heap.size ≤ q) w1 → va_D (fun q : Nat => s.heap.size ≤ q) w2 → (∀ (i j : Nat) (p q : Nat × va_E), w1[i]? = some p → w2[j]? = some q → ¬ p.1 = q.1) → va_S (fun q : Nat => s.heap.size ≤ q) s.heap H locs → ∀ ls : Array Slot, lv_has ls 4 [(0, .ref b), (1, .ref (ad 0)), (2, .ref (ad2 0)), (3, .int (nI i))] → W p l e room_1 s m #[Value.ref b] below meth c H locs cells slots Q (F0 m 489 ls [])) :
    ∀ w1 w2 : va_W, cs_JJ ad cI cJ ad2 cI2 cZ w1 w2 → ∀ (H : Heap) (locs : List Loc), va_P D vwCl w1 H → va_P D vwCl w2 H → va_D (fun q : Nat => s.heap.size ≤ q) w1 → va_D (fun q : Nat => s.heap.size ≤ q) w2 → (∀ (i j : Nat) (p q : Nat × va_E), w1[i]? = some p → w2[j]? = some q → ¬ p.1 = q.1) → va_S (fun q : Nat => s.heap.size ≤ q) s.heap H locs → ∀ ls : Array Slot, lv_has ls 4 [(0, .ref b), (1, .ref (ad 0)), (2, .ref (ad2 0)), (3, .int (nI i))] → W p l e room_1 s m #[Value.ref b] below meth c H locs cells slots Q (F0 m 377 ls []) := by
  intro w1 w2 hJJ H locs hP1 hP2 hD1 hD2 hap hS ls hl
  obtain ⟨n, ky, vl, sp, dp, cm, sh, lk, bs, pl, ss, st, ch, cd, nd, cmM, hs, shM, rfl, rfl, hJ⟩ := hJJ
  have hA : ∀ q : Nat, s.heap.size ≤ q → (fun q : Nat => s.heap.size ≤ q) q := fun _ h => h
  have hbA : ¬ (fun q : Nat => s.heap.size ≤ q) b := Nat.not_le.mpr hbl
  obtain ⟨postX, hMX, hNext⟩ := cp_depends l D (ad := ad) (cI := cI) (cJ := cJ) (ad2 := ad2) (cI2 := cI2) (cZ := cZ) (vl := vl) (ch := ch) (cd := cd) (shM := shM) hJ (xs (i + 1)) (xs (i + 2))
  refine lv_aload_n hx hb dL_law_377 rfl (lv_at hl 1 rfl) ?_
  refine lv_aload_n hx hb dL_law_378 rfl (lv_at hl 0 rfl) ?_
  refine lv_iload_n hx hb dL_law_379 rfl (lv_at hl 3 rfl) ?_
  refine lv_iconst (v := nI 1) hx hb dL_law_380 (by decide) ?_
  refine cs_iadd hx hb dL_law_381 ?_
  refine cs_sld (A := (fun q : Nat => s.heap.size ≤ q)) (k := i + 1) hx hb hX hbl hbA hS (by omega) (by omega) dL_law_382 ?_
  refine lv_aload_n hx hb dL_law_383 rfl (lv_at hl 0 rfl) ?_
  refine lv_iload_n hx hb dL_law_384 rfl (lv_at hl 3 rfl) ?_
  refine lv_iconst (v := nI 2) hx hb dL_law_385 (by decide) ?_
  refine cs_iadd hx hb dL_law_386 ?_
  refine cs_sld (A := (fun q : Nat => s.heap.size ≤ q)) (k := i + 2) hx hb hX hbl hbA hS (by omega) (by omega) dL_law_387 ?_
  refine cs_callJ (C := RX0) (As := [.int (xs (i + 1)), .int (xs (i + 2))]) (rest := []) ⟨hx, hb, hml, hown, hts⟩ hMX (cwV 2 hts (lw_V q140 q141 q142 q12 q143) rfl rfl rfl (by decide +kernel) ⟨Nat.le_of_ble_eq_true rfl, Nat.le_of_ble_eq_true rfl⟩) (va_recv hK1 hP1 (ci := 0) (q0 := 0) rfl rfl) hK1 hP1 hD1 hP2 hap hS hA rfl hl.1 rfl (Nat.le_of_ble_eq_true rfl) dL_law_388 hcs (fun r w1 H locs hq hP1 hD1 hP2 hap hS => ?_)
  obtain ⟨postM, hMM, hEnd⟩ := hNext r w1 hq
  refine lv_aload_n hx hb dL_law_391 rfl (lv_at hl 2 rfl) ?_
  refine lv_aload_n hx hb dL_law_392 rfl (lv_at hl 0 rfl) ?_
  refine lv_iload_n hx hb dL_law_393 rfl (lv_at hl 3 rfl) ?_
  refine lv_iconst (v := nI 1) hx hb dL_law_394 (by decide) ?_
  refine cs_iadd hx hb dL_law_395 ?_
  refine cs_sld (A := (fun q : Nat => s.heap.size ≤ q)) (k := i + 1) hx hb hX hbl hbA hS (by omega) (by omega) dL_law_396 ?_
  refine lv_aload_n hx hb dL_law_397 rfl (lv_at hl 0 rfl) ?_
  refine lv_iload_n hx hb dL_law_398 rfl (lv_at hl 3 rfl) ?_
  refine lv_iconst (v := nI 2) hx hb dL_law_399 (by decide) ?_
  refine cs_iadd hx hb dL_law_400 ?_
  refine cs_sld (A := (fun q : Nat => s.heap.size ≤ q)) (k := i + 2) hx hb hX hbl hbA hS (by omega) (by omega) dL_law_401 ?_
  refine cs_callJ (C := RX1) (As := [.int (xs (i + 1)), .int (xs (i + 2))]) (rest := [.int r]) ⟨hx, hb, hml, hown, hts⟩ hMM (cwV 2 hts (lw_V q248 q249 q250 q13 q251) rfl rfl rfl (by decide +kernel) ⟨Nat.le_of_ble_eq_true rfl, Nat.le_of_ble_eq_true rfl⟩) (va_recv hK2 hP2 (ci := 1) (q0 := 0) rfl rfl) hK2 hP2 hD2 hP1 (fun i j x z h1 h2 h3 => hap j i z x h2 h1 h3.symm) hS hA rfl hl.1 rfl (Nat.le_of_ble_eq_true rfl) dL_law_402 hcs (fun r2 w2 H locs hq2 hP2 hD2 hP1 hap2 hS => ?_)
  obtain ⟨hrr, hJJ⟩ := hEnd r2 w2 hq2
  refine lv_icmp_eq (tgt := 489) hx hb dL_law_405 (by decide) (fun _ => ?_) (fun h => absurd hrr h)
  exact hcont w1 w2 hJJ H locs hP1 hP2 hD1 hD2 (fun i j x z h1 h2 h3 => hap2 j i z x h2 h1 h3.symm) hS ls hl

set_option maxHeartbeats 4000000 in
set_option maxRecDepth 100000 in
theorem cl_held {p : Program} {l : Launch} {e : Env} {s : State} {m : MethodId} {below : List Frame} {meth : Method} {c : Code} {Q : State → Prop} {D : va_G} {b L : Nat} {xs : Nat → Int32} {cells slots : Nat} (hx : p.tables.exec = Jvm.exec) (hb : c.code = code) (hml : c.maxLocals = 4) (hown : s.vm.findClass R_law = some m.cls) (hts : ∀ w ∈ lw_all, w.before #[Value.ref b] s = true) (hX : va_X b L xs s s.heap) (hbl : b < s.heap.size) (hcs : cells ≤ room_1.cells ∧ slots ≤ room_1.slots) {ad : Nat → Nat} {cI cJ : ClassId} {ad2 : Nat → Nat} {cI2 cZ : ClassId} (hK1 : va_K D vwCl (cs_tX cI cJ) s) (hK2 : va_K D vwCl (cs_tM cI2 cZ) s) (hL : L ≤ 256) {i : Nat} (hi : i + 4 ≤ L) (hcont : ∀ w1 w2 : va_W, cs_JJ ad cI cJ ad2 cI2 cZ w1 w2 → ∀ (H : Heap) (locs : List Loc), va_P D vwCl w1 H → va_P D vwCl w2 H → va_D (fun q : Nat => s.heap.size ≤ q) w1 → va_D (fun q : Nat => s.heap.size ≤ q) w2 → (∀ (i j : Nat) (p q : Nat × va_E), w1[i]? = some p → w2[j]? = some q → ¬ p.1 = q.1) → va_S (fun q : Nat => s.heap.size ≤ q) s.heap H locs → ∀ ls : Array Slot, lv_has ls 4 [(0, .ref b), (1, .ref (ad 0)), (2, .ref (ad2 0)), (3, .int (nI i))] → W p l e room_1 s m #[Value.ref b] below meth c H locs cells slots Q (F0 m 489 ls [])) :
    ∀ w1 w2 : va_W, cs_JJ ad cI cJ ad2 cI2 cZ w1 w2 → ∀ (H : Heap) (locs : List Loc), va_P D vwCl w1 H → va_P D vwCl w2 H → va_D (fun q : Nat => s.heap.size ≤ q) w1 → va_D (fun q : Nat => s.heap.size ≤ q) w2 → (∀ (i j : Nat) (p q : Nat × va_E), w1[i]? = some p → w2[j]? = some q → ¬ p.1 = q.1) → va_S (fun q : Nat => s.heap.size ≤ q) s.heap H locs → ∀ ls : Array Slot, lv_has ls 4 [(0, .ref b), (1, .ref (ad 0)), (2, .ref (ad2 0)), (3, .int (nI i))] → W p l e room_1 s m #[Value.ref b] below meth c H locs cells slots Q (F0 m 410 ls []) := by
  intro w1 w2 hJJ H locs hP1 hP2 hD1 hD2 hap hS ls hl
  obtain ⟨n, ky, vl, sp, dp, cm, sh, lk, bs, pl, ss, st, ch, cd, nd, cmM, hs, shM, rfl, rfl, hJ⟩ := hJJ
  have hA : ∀ q : Nat, s.heap.size ≤ q → (fun q : Nat => s.heap.size ≤ q) q := fun _ h => h
  have hbA : ¬ (fun q : Nat => s.heap.size ≤ q) b := Nat.not_le.mpr hbl
  obtain ⟨postX, hMX, hNext⟩ := cp_held l D (ad := ad) (cI := cI) (cJ := cJ) (ad2 := ad2) (cI2 := cI2) (cZ := cZ) (vl := vl) (ch := ch) (cd := cd) (shM := shM) hJ (xs (i + 1))
  refine lv_aload_n hx hb dL_law_410 rfl (lv_at hl 1 rfl) ?_
  refine lv_aload_n hx hb dL_law_411 rfl (lv_at hl 0 rfl) ?_
  refine lv_iload_n hx hb dL_law_412 rfl (lv_at hl 3 rfl) ?_
  refine lv_iconst (v := nI 1) hx hb dL_law_413 (by decide) ?_
  refine cs_iadd hx hb dL_law_414 ?_
  refine cs_sld (A := (fun q : Nat => s.heap.size ≤ q)) (k := i + 1) hx hb hX hbl hbA hS (by omega) (by omega) dL_law_415 ?_
  refine cs_callJ (C := RX0) (As := [.int (xs (i + 1))]) (rest := []) ⟨hx, hb, hml, hown, hts⟩ hMX (cwV 1 hts (lw_V q144 q145 q146 q12 q147) rfl rfl rfl (by decide +kernel) ⟨Nat.le_of_ble_eq_true rfl, Nat.le_of_ble_eq_true rfl⟩) (va_recv hK1 hP1 (ci := 0) (q0 := 0) rfl rfl) hK1 hP1 hD1 hP2 hap hS hA rfl hl.1 rfl (Nat.le_of_ble_eq_true rfl) dL_law_416 hcs (fun r w1 H locs hq hP1 hD1 hP2 hap hS => ?_)
  obtain ⟨postM, hMM, hEnd⟩ := hNext r w1 hq
  refine lv_aload_n hx hb dL_law_419 rfl (lv_at hl 2 rfl) ?_
  refine lv_aload_n hx hb dL_law_420 rfl (lv_at hl 0 rfl) ?_
  refine lv_iload_n hx hb dL_law_421 rfl (lv_at hl 3 rfl) ?_
  refine lv_iconst (v := nI 1) hx hb dL_law_422 (by decide) ?_
  refine cs_iadd hx hb dL_law_423 ?_
  refine cs_sld (A := (fun q : Nat => s.heap.size ≤ q)) (k := i + 1) hx hb hX hbl hbA hS (by omega) (by omega) dL_law_424 ?_
  refine cs_callJ (C := RX1) (As := [.int (xs (i + 1))]) (rest := [.int r]) ⟨hx, hb, hml, hown, hts⟩ hMM (cwV 1 hts (lw_V q252 q253 q254 q13 q255) rfl rfl rfl (by decide +kernel) ⟨Nat.le_of_ble_eq_true rfl, Nat.le_of_ble_eq_true rfl⟩) (va_recv hK2 hP2 (ci := 1) (q0 := 0) rfl rfl) hK2 hP2 hD2 hP1 (fun i j x z h1 h2 h3 => hap j i z x h2 h1 h3.symm) hS hA rfl hl.1 rfl (Nat.le_of_ble_eq_true rfl) dL_law_425 hcs (fun r2 w2 H locs hq2 hP2 hD2 hP1 hap2 hS => ?_)
  obtain ⟨hrr, hJJ⟩ := hEnd r2 w2 hq2
  refine lv_icmp_eq (tgt := 489) hx hb dL_law_428 (by decide) (fun _ => ?_) (fun h => absurd hrr h)
  exact hcont w1 w2 hJJ H locs hP1 hP2 hD1 hD2 (fun i j x z h1 h2 h3 => hap2 j i z x h2 h1 h3.symm) hS ls hl

set_option maxHeartbeats 4000000 in
set_option maxRecDepth 100000 in
theorem cl_seen {p : Program} {l : Launch} {e : Env} {s : State} {m : MethodId} {below : List Frame} {meth : Method} {c : Code} {Q : State → Prop} {D : va_G} {b L : Nat} {xs : Nat → Int32} {cells slots : Nat} (hx : p.tables.exec = Jvm.exec) (hb : c.code = code) (hml : c.maxLocals = 4) (hown : s.vm.findClass R_law = some m.cls) (hts : ∀ w ∈ lw_all, w.before #[Value.ref b] s = true) (hX : va_X b L xs s s.heap) (hbl : b < s.heap.size) (hcs : cells ≤ room_1.cells ∧ slots ≤ room_1.slots) {ad : Nat → Nat} {cI cJ : ClassId} {ad2 : Nat → Nat} {cI2 cZ : ClassId} (hK1 : va_K D vwCl (cs_tX cI cJ) s) (hK2 : va_K D vwCl (cs_tM cI2 cZ) s) (hL : L ≤ 256) {i : Nat} (hi : i + 4 ≤ L) (hcont : ∀ w1 w2 : va_W, cs_JJ ad cI cJ ad2 cI2 cZ w1 w2 → ∀ (H : Heap) (locs : List Loc), va_P D vwCl w1 H → va_P D vwCl w2 H → va_D (fun q : Nat => s.heap.size ≤ q) w1 → va_D (fun q : Nat => s.heap.size ≤ q) w2 → (∀ (i j : Nat) (p q : Nat × va_E), w1[i]? = some p → w2[j]? = some q → ¬ p.1 = q.1) → va_S (fun q : Nat => s.heap.size ≤ q) s.heap H locs → ∀ ls : Array Slot, lv_has ls 4 [(0, .ref b), (1, .ref (ad 0)), (2, .ref (ad2 0)), (3, .int (nI i))] → W p l e room_1 s m #[Value.ref b] below meth c H locs cells slots Q (F0 m 489 ls [])) :
    ∀ w1 w2 : va_W, cs_JJ ad cI cJ ad2 cI2 cZ w1 w2 → ∀ (H : Heap) (locs : List Loc), va_P D vwCl w1 H → va_P D vwCl w2 H → va_D (fun q : Nat => s.heap.size ≤ q) w1 → va_D (fun q : Nat => s.heap.size ≤ q) w2 → (∀ (i j : Nat) (p q : Nat × va_E), w1[i]? = some p → w2[j]? = some q → ¬ p.1 = q.1) → va_S (fun q : Nat => s.heap.size ≤ q) s.heap H locs → ∀ ls : Array Slot, lv_has ls 4 [(0, .ref b), (1, .ref (ad 0)), (2, .ref (ad2 0)), (3, .int (nI i))] → W p l e room_1 s m #[Value.ref b] below meth c H locs cells slots Q (F0 m 433 ls []) := by
  intro w1 w2 hJJ H locs hP1 hP2 hD1 hD2 hap hS ls hl
  obtain ⟨n, ky, vl, sp, dp, cm, sh, lk, bs, pl, ss, st, ch, cd, nd, cmM, hs, shM, rfl, rfl, hJ⟩ := hJJ
  have hA : ∀ q : Nat, s.heap.size ≤ q → (fun q : Nat => s.heap.size ≤ q) q := fun _ h => h
  have hbA : ¬ (fun q : Nat => s.heap.size ≤ q) b := Nat.not_le.mpr hbl
  obtain ⟨postX, hMX, hNext⟩ := cp_seen l D (ad := ad) (cI := cI) (cJ := cJ) (ad2 := ad2) (cI2 := cI2) (cZ := cZ) (vl := vl) (ch := ch) (cd := cd) (shM := shM) hJ (xs (i + 1))
  refine lv_aload_n hx hb dL_law_433 rfl (lv_at hl 1 rfl) ?_
  refine lv_aload_n hx hb dL_law_434 rfl (lv_at hl 0 rfl) ?_
  refine lv_iload_n hx hb dL_law_435 rfl (lv_at hl 3 rfl) ?_
  refine lv_iconst (v := nI 1) hx hb dL_law_436 (by decide) ?_
  refine cs_iadd hx hb dL_law_437 ?_
  refine cs_sld (A := (fun q : Nat => s.heap.size ≤ q)) (k := i + 1) hx hb hX hbl hbA hS (by omega) (by omega) dL_law_438 ?_
  refine cs_callJ (C := RX0) (As := [.int (xs (i + 1))]) (rest := []) ⟨hx, hb, hml, hown, hts⟩ hMX (cwV 1 hts (lw_V q148 q149 q150 q12 q151) rfl rfl rfl (by decide +kernel) ⟨Nat.le_of_ble_eq_true rfl, Nat.le_of_ble_eq_true rfl⟩) (va_recv hK1 hP1 (ci := 0) (q0 := 0) rfl rfl) hK1 hP1 hD1 hP2 hap hS hA rfl hl.1 rfl (Nat.le_of_ble_eq_true rfl) dL_law_439 hcs (fun r w1 H locs hq hP1 hD1 hP2 hap hS => ?_)
  obtain ⟨postM, hMM, hEnd⟩ := hNext r w1 hq
  refine lv_aload_n hx hb dL_law_442 rfl (lv_at hl 2 rfl) ?_
  refine lv_aload_n hx hb dL_law_443 rfl (lv_at hl 0 rfl) ?_
  refine lv_iload_n hx hb dL_law_444 rfl (lv_at hl 3 rfl) ?_
  refine lv_iconst (v := nI 1) hx hb dL_law_445 (by decide) ?_
  refine cs_iadd hx hb dL_law_446 ?_
  refine cs_sld (A := (fun q : Nat => s.heap.size ≤ q)) (k := i + 1) hx hb hX hbl hbA hS (by omega) (by omega) dL_law_447 ?_
  refine cs_callJ (C := RX1) (As := [.int (xs (i + 1))]) (rest := [.int r]) ⟨hx, hb, hml, hown, hts⟩ hMM (cwV 1 hts (lw_V q256 q257 q258 q13 q259) rfl rfl rfl (by decide +kernel) ⟨Nat.le_of_ble_eq_true rfl, Nat.le_of_ble_eq_true rfl⟩) (va_recv hK2 hP2 (ci := 1) (q0 := 0) rfl rfl) hK2 hP2 hD2 hP1 (fun i j x z h1 h2 h3 => hap j i z x h2 h1 h3.symm) hS hA rfl hl.1 rfl (Nat.le_of_ble_eq_true rfl) dL_law_448 hcs (fun r2 w2 H locs hq2 hP2 hD2 hP1 hap2 hS => ?_)
  obtain ⟨hrr, hJJ⟩ := hEnd r2 w2 hq2
  refine lv_icmp_eq (tgt := 489) hx hb dL_law_451 (by decide) (fun _ => ?_) (fun h => absurd hrr h)
  exact hcont w1 w2 hJJ H locs hP1 hP2 hD1 hD2 (fun i j x z h1 h2 h3 => hap2 j i z x h2 h1 h3.symm) hS ls hl

set_option maxHeartbeats 4000000 in
set_option maxRecDepth 100000 in
theorem cl_agree {p : Program} {l : Launch} {e : Env} {s : State} {m : MethodId} {below : List Frame} {meth : Method} {c : Code} {Q : State → Prop} {D : va_G} {b L : Nat} {xs : Nat → Int32} {cells slots : Nat} (hx : p.tables.exec = Jvm.exec) (hb : c.code = code) (hml : c.maxLocals = 4) (hown : s.vm.findClass R_law = some m.cls) (hts : ∀ w ∈ lw_all, w.before #[Value.ref b] s = true) (hX : va_X b L xs s s.heap) (hbl : b < s.heap.size) (hcs : cells ≤ room_1.cells ∧ slots ≤ room_1.slots) {ad : Nat → Nat} {cI cJ : ClassId} {ad2 : Nat → Nat} {cI2 cZ : ClassId} (hK1 : va_K D vwCl (cs_tX cI cJ) s) (hK2 : va_K D vwCl (cs_tM cI2 cZ) s) (hL : L ≤ 256) {i : Nat} (hi : i + 4 ≤ L) (hcont : ∀ w1 w2 : va_W, cs_JJ ad cI cJ ad2 cI2 cZ w1 w2 → ∀ (H : Heap) (locs : List Loc), va_P D vwCl w1 H → va_P D vwCl w2 H → va_D (fun q : Nat => s.heap.size ≤ q) w1 → va_D (fun q : Nat => s.heap.size ≤ q) w2 → (∀ (i j : Nat) (p q : Nat × va_E), w1[i]? = some p → w2[j]? = some q → ¬ p.1 = q.1) → va_S (fun q : Nat => s.heap.size ≤ q) s.heap H locs → ∀ ls : Array Slot, lv_has ls 4 [(0, .ref b), (1, .ref (ad 0)), (2, .ref (ad2 0)), (3, .int (nI i))] → W p l e room_1 s m #[Value.ref b] below meth c H locs cells slots Q (F0 m 489 ls [])) :
    ∀ w1 w2 : va_W, cs_JJ ad cI cJ ad2 cI2 cZ w1 w2 → ∀ (H : Heap) (locs : List Loc), va_P D vwCl w1 H → va_P D vwCl w2 H → va_D (fun q : Nat => s.heap.size ≤ q) w1 → va_D (fun q : Nat => s.heap.size ≤ q) w2 → (∀ (i j : Nat) (p q : Nat × va_E), w1[i]? = some p → w2[j]? = some q → ¬ p.1 = q.1) → va_S (fun q : Nat => s.heap.size ≤ q) s.heap H locs → ∀ ls : Array Slot, lv_has ls 4 [(0, .ref b), (1, .ref (ad 0)), (2, .ref (ad2 0)), (3, .int (nI i))] → W p l e room_1 s m #[Value.ref b] below meth c H locs cells slots Q (F0 m 456 ls []) := by
  intro w1 w2 hJJ H locs hP1 hP2 hD1 hD2 hap hS ls hl
  obtain ⟨n, ky, vl, sp, dp, cm, sh, lk, bs, pl, ss, st, ch, cd, nd, cmM, hs, shM, rfl, rfl, hJ⟩ := hJJ
  have hA : ∀ q : Nat, s.heap.size ≤ q → (fun q : Nat => s.heap.size ≤ q) q := fun _ h => h
  have hbA : ¬ (fun q : Nat => s.heap.size ≤ q) b := Nat.not_le.mpr hbl
  obtain ⟨postX, hMX, hNext⟩ := cp_agree l D (ad := ad) (cI := cI) (cJ := cJ) (ad2 := ad2) (cI2 := cI2) (cZ := cZ) (vl := vl) (ch := ch) (cd := cd) (shM := shM) hJ (xs (i + 1)) (xs (i + 2))
  refine lv_aload_n hx hb dL_law_456 rfl (lv_at hl 1 rfl) ?_
  refine lv_aload_n hx hb dL_law_457 rfl (lv_at hl 0 rfl) ?_
  refine lv_iload_n hx hb dL_law_458 rfl (lv_at hl 3 rfl) ?_
  refine lv_iconst (v := nI 1) hx hb dL_law_459 (by decide) ?_
  refine cs_iadd hx hb dL_law_460 ?_
  refine cs_sld (A := (fun q : Nat => s.heap.size ≤ q)) (k := i + 1) hx hb hX hbl hbA hS (by omega) (by omega) dL_law_461 ?_
  refine lv_aload_n hx hb dL_law_462 rfl (lv_at hl 0 rfl) ?_
  refine lv_iload_n hx hb dL_law_463 rfl (lv_at hl 3 rfl) ?_
  refine lv_iconst (v := nI 2) hx hb dL_law_464 (by decide) ?_
  refine cs_iadd hx hb dL_law_465 ?_
  refine cs_sld (A := (fun q : Nat => s.heap.size ≤ q)) (k := i + 2) hx hb hX hbl hbA hS (by omega) (by omega) dL_law_466 ?_
  refine cs_callJ (C := RX0) (As := [.int (xs (i + 1)), .int (xs (i + 2))]) (rest := []) ⟨hx, hb, hml, hown, hts⟩ hMX (cwV 2 hts (lw_V q152 q153 q154 q12 q155) rfl rfl rfl (by decide +kernel) ⟨Nat.le_of_ble_eq_true rfl, Nat.le_of_ble_eq_true rfl⟩) (va_recv hK1 hP1 (ci := 0) (q0 := 0) rfl rfl) hK1 hP1 hD1 hP2 hap hS hA rfl hl.1 rfl (Nat.le_of_ble_eq_true rfl) dL_law_467 hcs (fun r w1 H locs hq hP1 hD1 hP2 hap hS => ?_)
  obtain ⟨postM, hMM, hEnd⟩ := hNext r w1 hq
  refine lv_aload_n hx hb dL_law_470 rfl (lv_at hl 2 rfl) ?_
  refine lv_aload_n hx hb dL_law_471 rfl (lv_at hl 0 rfl) ?_
  refine lv_iload_n hx hb dL_law_472 rfl (lv_at hl 3 rfl) ?_
  refine lv_iconst (v := nI 1) hx hb dL_law_473 (by decide) ?_
  refine cs_iadd hx hb dL_law_474 ?_
  refine cs_sld (A := (fun q : Nat => s.heap.size ≤ q)) (k := i + 1) hx hb hX hbl hbA hS (by omega) (by omega) dL_law_475 ?_
  refine lv_aload_n hx hb dL_law_476 rfl (lv_at hl 0 rfl) ?_
  refine lv_iload_n hx hb dL_law_477 rfl (lv_at hl 3 rfl) ?_
  refine lv_iconst (v := nI 2) hx hb dL_law_478 (by decide) ?_
  refine cs_iadd hx hb dL_law_479 ?_
  refine cs_sld (A := (fun q : Nat => s.heap.size ≤ q)) (k := i + 2) hx hb hX hbl hbA hS (by omega) (by omega) dL_law_480 ?_
  refine cs_callJ (C := RX1) (As := [.int (xs (i + 1)), .int (xs (i + 2))]) (rest := [.int r]) ⟨hx, hb, hml, hown, hts⟩ hMM (cwV 2 hts (lw_V q260 q261 q262 q13 q263) rfl rfl rfl (by decide +kernel) ⟨Nat.le_of_ble_eq_true rfl, Nat.le_of_ble_eq_true rfl⟩) (va_recv hK2 hP2 (ci := 1) (q0 := 0) rfl rfl) hK2 hP2 hD2 hP1 (fun i j x z h1 h2 h3 => hap j i z x h2 h1 h3.symm) hS hA rfl hl.1 rfl (Nat.le_of_ble_eq_true rfl) dL_law_481 hcs (fun r2 w2 H locs hq2 hP2 hD2 hP1 hap2 hS => ?_)
  obtain ⟨hrr, hJJ⟩ := hEnd r2 w2 hq2
  refine lv_icmp_eq (tgt := 489) hx hb dL_law_484 (by decide) (fun _ => ?_) (fun h => absurd hrr h)
  exact hcont w1 w2 hJJ H locs hP1 hP2 hD1 hD2 (fun i j x z h1 h2 h3 => hap2 j i z x h2 h1 h3.symm) hS ls hl
end
section
set_option maxHeartbeats 4000000 in
set_option maxRecDepth 100000 in
theorem cl_loop {p : Program} {l : Launch} {e : Env} {s : State} {m : MethodId} {below : List Frame} {meth : Method} {c : Code} {Q : State → Prop} {D : va_G} {b L : Nat} {xs : Nat → Int32} {cells slots : Nat} (hx : p.tables.exec = Jvm.exec) (hb : c.code = code) (hml : c.maxLocals = 4) (hown : s.vm.findClass R_law = some m.cls) (hts : ∀ w ∈ lw_all, w.before #[Value.ref b] s = true) (hX : va_X b L xs s s.heap) (hbl : b < s.heap.size) (hcs : cells ≤ room_1.cells ∧ slots ≤ room_1.slots) {ad : Nat → Nat} {cI cJ : ClassId} {ad2 : Nat → Nat} {cI2 cZ : ClassId} (hK1 : va_K D vwCl (cs_tX cI cJ) s) (hK2 : va_K D vwCl (cs_tM cI2 cZ) s) (hL : L ≤ 256) (hr : meth.sig.returnType = Jvm.Pilot.CCausalStoreLaw_law_r3670_87eabb.ret) (hlocks : meth.locks = false) (hZ : Q = lw_Z below #[Value.ref b] s) :
    ∀ (j i : Nat), L < i + j → i ≤ 260 → ∀ w1 w2 : va_W, cs_JJ ad cI cJ ad2 cI2 cZ w1 w2 → ∀ (H : Heap) (locs : List Loc), va_P D vwCl w1 H → va_P D vwCl w2 H → va_D (fun q : Nat => s.heap.size ≤ q) w1 → va_D (fun q : Nat => s.heap.size ≤ q) w2 → (∀ (i j : Nat) (p q : Nat × va_E), w1[i]? = some p → w2[j]? = some q → ¬ p.1 = q.1) → va_S (fun q : Nat => s.heap.size ≤ q) s.heap H locs → ∀ ls : Array Slot, lv_has ls 4 [(0, .ref b), (1, .ref (ad 0)), (2, .ref (ad2 0)), (3, .int (nI i))] → W p l e room_1 s m #[Value.ref b] below meth c H locs cells slots Q (F0 m 18 ls []) := by
  intro j
  induction j with
  | zero =>
    intro i hij hi w1 w2 hJJ H locs hP1 hP2 hD1 hD2 hap hS ls hl
    have hbA : ¬ (fun q : Nat => s.heap.size ≤ q) b := Nat.not_le.mpr hbl
    refine lv_iload_n hx hb dL_law_18 rfl (lv_at hl 3 rfl) ?_
    refine lv_aload_n hx hb dL_law_19 rfl (lv_at hl 0 rfl) ?_
    refine va_slen (A := (fun q : Nat => s.heap.size ≤ q)) hx hb hX hbl hbA hS dL_law_20 ?_
    refine lv_iconst (v := nI 4) hx hb dL_law_21 (by decide) ?_
    refine lv_isub hx hb dL_law_22 ?_
    refine lv_icmp_gt (tgt := 495) hx hb dL_law_23 (by decide) (fun h => ?_) (fun h => absurd (cs_head hL hi h) (by omega))
    refine lv_iconst (v := 1) hx hb dL_law_495 (by decide) ?_
    refine va_forget (fun q hq => hS.2.2 q hq) ?_
    refine W.widen (k := 600000) (n := 7290000) hcs.1 hcs.2 ?_
    rw [hZ]
    exact lw_ret hx hb hr hlocks dL_law_496
  | succ j ih =>
    intro i hij hi w1 w2 hJJ H locs hP1 hP2 hD1 hD2 hap hS ls hl
    have hbA : ¬ (fun q : Nat => s.heap.size ≤ q) b := Nat.not_le.mpr hbl
    refine lv_iload_n hx hb dL_law_18 rfl (lv_at hl 3 rfl) ?_
    refine lv_aload_n hx hb dL_law_19 rfl (lv_at hl 0 rfl) ?_
    refine va_slen (A := (fun q : Nat => s.heap.size ≤ q)) hx hb hX hbl hbA hS dL_law_20 ?_
    refine lv_iconst (v := nI 4) hx hb dL_law_21 (by decide) ?_
    refine lv_isub hx hb dL_law_22 ?_
    refine lv_icmp_gt (tgt := 495) hx hb dL_law_23 (by decide) (fun h => ?_) (fun h => ?_)
    · refine lv_iconst (v := 1) hx hb dL_law_495 (by decide) ?_
      refine va_forget (fun q hq => hS.2.2 q hq) ?_
      refine W.widen (k := 600000) (n := 7290000) hcs.1 hcs.2 ?_
      rw [hZ]
      exact lw_ret hx hb hr hlocks dL_law_496
    · have hi4 := cs_head hL hi h
      have hcont : ∀ w1 w2 : va_W, cs_JJ ad cI cJ ad2 cI2 cZ w1 w2 → ∀ (H : Heap) (locs : List Loc), va_P D vwCl w1 H → va_P D vwCl w2 H → va_D (fun q : Nat => s.heap.size ≤ q) w1 → va_D (fun q : Nat => s.heap.size ≤ q) w2 → (∀ (i j : Nat) (p q : Nat × va_E), w1[i]? = some p → w2[j]? = some q → ¬ p.1 = q.1) → va_S (fun q : Nat => s.heap.size ≤ q) s.heap H locs → ∀ ls : Array Slot, lv_has ls 4 [(0, .ref b), (1, .ref (ad 0)), (2, .ref (ad2 0)), (3, .int (nI i))] → W p l e room_1 s m #[Value.ref b] below meth c H locs cells slots Q (F0 m 489 ls []) := by
        intro w1 w2 hJJ H locs hP1 hP2 hD1 hD2 hap hS ls hl
        refine lv_iinc (v := nI (i + 4)) (lv' := [(3, .int (nI (i + 4))), (0, .ref b), (1, .ref (ad 0)), (2, .ref (ad2 0))]) hx hb dL_law_489 hl (k := 3) rfl (cs_inc4 _) (by decide) rfl (fun ls hl => ?_)
        refine lv_goto (tgt := 18) hx hb dL_law_492 (by decide) ?_
        exact ih (i + 4) (by omega) (by omega) w1 w2 hJJ H locs hP1 hP2 hD1 hD2 hap hS ls (lv_sub hl [1, 2, 3, 0] rfl)
      refine lv_aload_n hx hb dL_law_26 rfl (lv_at hl 0 rfl) ?_
      refine lv_iload_n hx hb dL_law_27 rfl (lv_at hl 3 rfl) ?_
      refine cs_sld (A := (fun q : Nat => s.heap.size ≤ q)) (k := i) hx hb hX hbl hbA hS (by omega) (by omega) dL_law_28 ?_
      refine lv_bipush (v := 15) hx hb dL_law_29 (by decide) ?_
      refine lv_iand hx hb dL_law_31 ?_
      obtain ⟨t9, ht9, et9⟩ := pk_andE (xs i) (m := 15) 4 (by decide)
      refine cs_ti et9 ?_
      rcases (show t9 = 0 ∨ t9 = 1 ∨ t9 = 2 ∨ t9 = 3 ∨ t9 = 4 ∨ t9 = 5 ∨ t9 = 6 ∨ t9 = 7 ∨ t9 = 8 ∨ t9 = 9 ∨ t9 = 10 ∨ t9 = 11 ∨ t9 = 12 ∨ 13 ≤ t9 by omega) with rfl | rfl | rfl | rfl | rfl | rfl | rfl | rfl | rfl | rfl | rfl | rfl | rfl | h13
      · refine lv_tableIn (x := nI 0) (off := 68) (tgt := 100) hx hb dL_law_32 (by decide) (by decide) (by decide) (by decide) ?_
        exact cl_write hx hb hml hown hts hX hbl hcs hK1 hK2 hL hi4 hcont w1 w2 hJJ H locs hP1 hP2 hD1 hD2 hap hS ls hl
      · refine lv_tableIn (x := nI 1) (off := 111) (tgt := 143) hx hb dL_law_32 (by decide) (by decide) (by decide) (by decide) ?_
        exact cl_read hx hb hml hown hts hX hbl hcs hK1 hK2 hL hi4 hcont w1 w2 hJJ H locs hP1 hP2 hD1 hD2 hap hS ls hl
      · refine lv_tableIn (x := nI 2) (off := 144) (tgt := 176) hx hb dL_law_32 (by decide) (by decide) (by decide) (by decide) ?_
        exact cl_move hx hb hml hown hts hX hbl hcs hK1 hK2 hL hi4 hcont w1 w2 hJJ H locs hP1 hP2 hD1 hD2 hap hS ls hl
      · refine lv_tableIn (x := nI 3) (off := 177) (tgt := 209) hx hb dL_law_32 (by decide) (by decide) (by decide) (by decide) ?_
        exact cl_deliver hx hb hml hown hts hX hbl hcs hK1 hK2 hL hi4 hcont w1 w2 hJJ H locs hP1 hP2 hD1 hD2 hap hS ls hl
      · refine lv_tableIn (x := nI 4) (off := 210) (tgt := 242) hx hb dL_law_32 (by decide) (by decide) (by decide) (by decide) ?_
        exact cl_deliverAll hx hb hml hown hts hX hbl hcs hK1 hK2 hL hi4 hcont w1 w2 hJJ H locs hP1 hP2 hD1 hD2 hap hS ls hl
      · refine lv_tableIn (x := nI 5) (off := 233) (tgt := 265) hx hb dL_law_32 (by decide) (by decide) (by decide) (by decide) ?_
        exact cl_visible hx hb hml hown hts hX hbl hcs hK1 hK2 hL hi4 hcont w1 w2 hJJ H locs hP1 hP2 hD1 hD2 hap hS ls hl
      · refine lv_tableIn (x := nI 6) (off := 266) (tgt := 298) hx hb dL_law_32 (by decide) (by decide) (by decide) (by decide) ?_
        exact cl_winner hx hb hml hown hts hX hbl hcs hK1 hK2 hL hi4 hcont w1 w2 hJJ H locs hP1 hP2 hD1 hD2 hap hS ls hl
      · refine lv_tableIn (x := nI 7) (off := 299) (tgt := 331) hx hb dL_law_32 (by decide) (by decide) (by decide) (by decide) ?_
        exact cl_value hx hb hml hown hts hX hbl hcs hK1 hK2 hL hi4 hcont w1 w2 hJJ H locs hP1 hP2 hD1 hD2 hap hS ls hl
      · refine lv_tableIn (x := nI 8) (off := 322) (tgt := 354) hx hb dL_law_32 (by decide) (by decide) (by decide) (by decide) ?_
        exact cl_stamp hx hb hml hown hts hX hbl hcs hK1 hK2 hL hi4 hcont w1 w2 hJJ H locs hP1 hP2 hD1 hD2 hap hS ls hl
      · refine lv_tableIn (x := nI 9) (off := 345) (tgt := 377) hx hb dL_law_32 (by decide) (by decide) (by decide) (by decide) ?_
        exact cl_depends hx hb hml hown hts hX hbl hcs hK1 hK2 hL hi4 hcont w1 w2 hJJ H locs hP1 hP2 hD1 hD2 hap hS ls hl
      · refine lv_tableIn (x := nI 10) (off := 378) (tgt := 410) hx hb dL_law_32 (by decide) (by decide) (by decide) (by decide) ?_
        exact cl_held hx hb hml hown hts hX hbl hcs hK1 hK2 hL hi4 hcont w1 w2 hJJ H locs hP1 hP2 hD1 hD2 hap hS ls hl
      · refine lv_tableIn (x := nI 11) (off := 401) (tgt := 433) hx hb dL_law_32 (by decide) (by decide) (by decide) (by decide) ?_
        exact cl_seen hx hb hml hown hts hX hbl hcs hK1 hK2 hL hi4 hcont w1 w2 hJJ H locs hP1 hP2 hD1 hD2 hap hS ls hl
      · refine lv_tableIn (x := nI 12) (off := 424) (tgt := 456) hx hb dL_law_32 (by decide) (by decide) (by decide) (by decide) ?_
        exact cl_agree hx hb hml hown hts hX hbl hcs hK1 hK2 hL hi4 hcont w1 w2 hJJ H locs hP1 hP2 hD1 hD2 hap hS ls hl
      · refine lv_tableOut (tgt := 489) hx hb dL_law_32 (Or.inr (by rw [nI_toInt (by omega)]; omega)) (by decide) ?_
        exact hcont w1 w2 hJJ H locs hP1 hP2 hD1 hD2 hap hS ls hl
end
section
set_option maxHeartbeats 4000000 in
set_option maxRecDepth 100000 in
/-- THE LAW, from its entry -/
theorem whole_start {p : Program} {e : Env} {s : State} {m : MethodId} {below : List Frame} {meth : Method} {c : Code} (l : Launch) {b L : Nat} {xs : Nat → Int32} (hL : L ≤ 256) (C0 : lw_At p s m meth c b L xs) : W p l e room_1 s m #[Value.ref b] below meth c s.heap [] 0 0 (lw_Z below #[Value.ref b] s) (entryFrame m ([Value.ref b] : List Value).toArray 4) := by
  obtain ⟨hx, hb, hr, hml, hown, hts0, hX, hbl, hlocks, hgv⟩ := id C0
  have hts : ∀ w ∈ lw_all, w.before #[Value.ref b] s = true := fun w h => hts0 w (lw_all_tbl h)
  have hA : ∀ q : Nat, s.heap.size ≤ q → (fun q : Nat => s.heap.size ≤ q) q := fun _ h => h
  obtain ⟨c0_, iS0, hKn0⟩ := u_known (C := RX0) (T := TX0) (N := 14) (n := 14) hts in_X0 (hts _ q15)
  obtain ⟨c1_, iS1, hKn1⟩ := u_known (C := RX1) (T := TX1) (N := 9) (n := 9) hts in_X1 (hts _ q157)
  obtain ⟨D, hKc⟩ : ∃ D : va_G, ∀ (k : Nat) (q : vw_C), vwCl[k]? = some q → u_Kn s q.1 q.2.1 q.2.2 (D.1 k) (D.2 k) := by
    refine ⟨(fun k => if k = 0 then c0_ else c1_, fun k => if k = 0 then iS0 else iS1), ?_⟩
    intro k q hq
    match k, hq with
    | 0, hq => cases hq; exact hKn0
    | 1, hq => cases hq; exact hKn1
    | k + 2, hq => simp [vwCl] at hq
  have hS : va_S (fun q : Nat => s.heap.size ≤ q) s.heap s.heap [] := va_S.rf
  have hK : va_K D vwCl [] s := ⟨hKc, fun k q h => by simp at h⟩
  have hP : va_P D vwCl [] s.heap := fun k q h => by simp at h
  have hD : va_D (fun q : Nat => s.heap.size ≤ q) [] := ⟨fun i j p q h => by simp at h, fun k q h => by simp at h⟩
  have hl := lv_entry ([.ref b]) (n := 4) (Nat.le_of_ble_eq_true rfl)
  rw [lg_entry_eq]
  generalize (lg_sl ([.ref b]) ++ List.replicate (4 - (lg_sl ([.ref b])).length) Slot.unset).toArray = ls at hl ⊢
  have hl : lv_has ls 4 [(0, .ref b)] := hl
  refine va_new (ci := 0) (fs := [.int (nI 0), .null, .null, .null, .null, .null, .null, .null, .null, .null, .null, .null, .null, .int (nI 0)]) (C := RX0) (T := TX0) (N := 14) hx hb hts in_X0 tyX0 tyX0_ok hown (hts _ q14) (hts _ q15) (hts _ q12) hK hP hD hS hA rfl (fun j hj => by rcases (show j = 0 ∨ j = 1 ∨ j = 2 ∨ j = 3 ∨ j = 4 ∨ j = 5 ∨ j = 6 ∨ j = 7 ∨ j = 8 ∨ j = 9 ∨ j = 10 ∨ j = 11 ∨ j = 12 ∨ j = 13 by omega) with rfl | rfl | rfl | rfl | rfl | rfl | rfl | rfl | rfl | rfl | rfl | rfl | rfl | rfl <;> rfl) (Nat.le_of_ble_eq_true rfl) (Nat.le_of_ble_eq_true rfl) dL_law_0 (fun q1 H hP hD hS => ?_)
  have hP : va_P D vwCl [(q1, .inr (0, [.int (nI 0), .null, .null, .null, .null, .null, .null, .null, .null, .null, .null, .null, .null, .int (nI 0)]))] H := hP
  have hD : va_D (fun q : Nat => s.heap.size ≤ q) [(q1, .inr (0, [.int (nI 0), .null, .null, .null, .null, .null, .null, .null, .null, .null, .null, .null, .null, .int (nI 0)]))] := hD
  refine lv_dup hx hb dL_law_3 rfl ?_
  have hFc := va_free (wc := [(q1, .inr (0, [.int (nI 0), .null, .null, .null, .null, .null, .null, .null, .null, .null, .null, .null, .null, .int (nI 0)]))]) hD hS hA [0] rfl
  refine va_callv (va_runI (As := []) (rest := [.ref q1]) ⟨hx, hb, hml, hown, hts⟩ (cs_initX l D q1 H.size) (cwI 0 hts (lw_meth q18) rfl rfl rfl (hts _ q12) (hts _ q16) (hts _ q17) rfl (by decide +kernel) ⟨Nat.le_of_ble_eq_true rfl, Nat.le_of_ble_eq_true rfl⟩) ⟨fun a U g mk q => by obtain ⟨q0, q1, qP, qK, qD⟩ := q; exact ⟨q0, q1, qP, va_K.moved (u := U) (U := U.calling g mk a) (Vm.Alike.refl U.vm) qK, qD⟩, fun U hU hW => ⟨rfl, by rw [hU], by rw [hU]; exact hP, va_K.moved hW.alike hK, hD.weaken (fun _ _ _ _ => trivial)⟩⟩ rfl rfl hl.1 rfl (lv_room (Nat.le_of_ble_eq_true rfl)) dL_law_4 ⟨Nat.le_of_ble_eq_true rfl, Nat.le_of_ble_eq_true rfl⟩) hS (fun q _ h => hFc q h) hFc (fun u t H1 locs ht hvm hw hB hz1 hk1 hS => ?_)
  obtain ⟨hu0, hbs⟩ := hw
  obtain ⟨hP1, hK1, hD1⟩ := hB
  rw [ht] at hP1
  have hK1 := va_K.moved hvm.symm hK1
  have hP1 : va_P D vwCl (cs_wX u.1 u.2.1 u.2.2.1 0 (fun _ => 0) (fun _ => 0) (fun _ => 0) (fun _ => 0) (fun _ => 0) (fun _ => 0) (fun _ => 0) u.2.2.2 (cs_pl 3) (fun _ => 0) (fun _ => 0) (fun _ => 0) 0) H1 := hP1
  have hD1 : va_D (fun q : Nat => s.heap.size ≤ q) (cs_wX u.1 u.2.1 u.2.2.1 0 (fun _ => 0) (fun _ => 0) (fun _ => 0) (fun _ => 0) (fun _ => 0) (fun _ => 0) (fun _ => 0) u.2.2.2 (cs_pl 3) (fun _ => 0) (fun _ => 0) (fun _ => 0) 0) := hD1.weaken (fun k q _ h => hFc q.1 h)
  refine lv_astore_n (lv' := [(1, .ref q1), (0, .ref b)]) hx hb dL_law_7 rfl hl (by decide) rfl (fun ls hl => ?_)
  refine va_new (ci := 1) (fs := [.int (nI 0), .null, .null, .null, .null, .null, .null, .null, .null]) (C := RX1) (T := TX1) (N := 9) hx hb hts in_X1 tyX1 tyX1_ok hown (hts _ q156) (hts _ q157) (hts _ q13) hK1 hP1 hD1 hS hA rfl (fun j hj => by rcases (show j = 0 ∨ j = 1 ∨ j = 2 ∨ j = 3 ∨ j = 4 ∨ j = 5 ∨ j = 6 ∨ j = 7 ∨ j = 8 by omega) with rfl | rfl | rfl | rfl | rfl | rfl | rfl | rfl | rfl <;> rfl) (Nat.le_of_ble_eq_true rfl) (Nat.le_of_ble_eq_true rfl) dL_law_8 (fun q2 H hP hD hS => ?_)
  have hP1 : va_P D vwCl (cs_wX u.1 u.2.1 u.2.2.1 0 (fun _ => 0) (fun _ => 0) (fun _ => 0) (fun _ => 0) (fun _ => 0) (fun _ => 0) (fun _ => 0) u.2.2.2 (cs_pl 3) (fun _ => 0) (fun _ => 0) (fun _ => 0) 0) H := hP.sub [0, 1, 2, 3, 4, 5, 6, 7, 8, 9, 10, 11, 12] rfl
  have hP2 : va_P D vwCl [(q2, .inr (1, [.int (nI 0), .null, .null, .null, .null, .null, .null, .null, .null]))] H := hP.sub [13] rfl
  have hD2 : va_D (fun q : Nat => s.heap.size ≤ q) [(q2, .inr (1, [.int (nI 0), .null, .null, .null, .null, .null, .null, .null, .null]))] := hD.sub [13] (by decide) rfl
  refine lv_dup hx hb dL_law_11 rfl ?_
  have hFc := va_free (wc := [(q2, .inr (1, [.int (nI 0), .null, .null, .null, .null, .null, .null, .null, .null]))]) hD hS hA [13] rfl
  refine va_callv (va_runI (As := []) (rest := [.ref q2]) ⟨hx, hb, hml, hown, hts⟩ (cs_initM l D q2 H.size) (cwI 0 hts (lw_meth q160) rfl rfl rfl (hts _ q13) (hts _ q158) (hts _ q159) rfl (by decide +kernel) ⟨Nat.le_of_ble_eq_true rfl, Nat.le_of_ble_eq_true rfl⟩) ⟨fun a U g mk q => by obtain ⟨q0, q1, qP, qK, qD⟩ := q; exact ⟨q0, q1, qP, va_K.moved (u := U) (U := U.calling g mk a) (Vm.Alike.refl U.vm) qK, qD⟩, fun U hU hW => ⟨rfl, by rw [hU], by rw [hU]; exact hP2, va_K.moved hW.alike hK, hD2.weaken (fun _ _ _ _ => trivial)⟩⟩ rfl rfl hl.1 rfl (lv_room (Nat.le_of_ble_eq_true rfl)) dL_law_12 ⟨Nat.le_of_ble_eq_true rfl, Nat.le_of_ble_eq_true rfl⟩) hS (fun q _ h => hFc q h) hFc (fun u2 t2 H2 locs ht2 hvm2 hu2 hB2 hz2 hk2 hS => ?_)
  obtain ⟨hP3, hK3, hD3⟩ := hB2
  rw [ht2] at hP3
  have hK3 := va_K.moved hvm2.symm hK3
  obtain ⟨hPJ, hDJ⟩ := va_join (wr := cs_wX u.1 u.2.1 u.2.2.1 0 (fun _ => 0) (fun _ => 0) (fun _ => 0) (fun _ => 0) (fun _ => 0) (fun _ => 0) (fun _ => 0) u.2.2.2 (cs_pl 3) (fun _ => 0) (fun _ => 0) (fun _ => 0) 0) (w1 := cs_wM u2.1 u2.2.1 u2.2.2 0 (fun _ => 0) (fun _ => 0) (fun _ => 0) (fun _ => false) (fun _ => false) (fun _ => false) (cs_pl 3) (fun _ => false)) hP hD [13] [0, 1, 2, 3, 4, 5, 6, 7, 8, 9, 10, 11, 12] rfl rfl (by decide) (by decide) hk2 hFc hP3 hD3
  have hP4 : va_P D vwCl (cs_wX u.1 u.2.1 u.2.2.1 0 (fun _ => 0) (fun _ => 0) (fun _ => 0) (fun _ => 0) (fun _ => 0) (fun _ => 0) (fun _ => 0) u.2.2.2 (cs_pl 3) (fun _ => 0) (fun _ => 0) (fun _ => 0) 0) H2 := hPJ.sub [0, 1, 2, 3, 4, 5, 6, 7, 8, 9, 10, 11, 12] rfl
  have hP5 : va_P D vwCl (cs_wM u2.1 u2.2.1 u2.2.2 0 (fun _ => 0) (fun _ => 0) (fun _ => 0) (fun _ => false) (fun _ => false) (fun _ => false) (cs_pl 3) (fun _ => false)) H2 := hPJ.sub [13, 14, 15, 16, 17, 18, 19, 20, 21] rfl
  have hD4 : va_D (fun q : Nat => s.heap.size ≤ q) (cs_wX u.1 u.2.1 u.2.2.1 0 (fun _ => 0) (fun _ => 0) (fun _ => 0) (fun _ => 0) (fun _ => 0) (fun _ => 0) (fun _ => 0) u.2.2.2 (cs_pl 3) (fun _ => 0) (fun _ => 0) (fun _ => 0) 0) := hDJ.sub [0, 1, 2, 3, 4, 5, 6, 7, 8, 9, 10, 11, 12] (by decide) rfl
  have hD5 : va_D (fun q : Nat => s.heap.size ≤ q) (cs_wM u2.1 u2.2.1 u2.2.2 0 (fun _ => 0) (fun _ => 0) (fun _ => 0) (fun _ => false) (fun _ => false) (fun _ => false) (cs_pl 3) (fun _ => false)) := hDJ.sub [13, 14, 15, 16, 17, 18, 19, 20, 21] (by decide) rfl
  have hap : (∀ (i j : Nat) (p q : Nat × va_E), (cs_wX u.1 u.2.1 u.2.2.1 0 (fun _ => 0) (fun _ => 0) (fun _ => 0) (fun _ => 0) (fun _ => 0) (fun _ => 0) (fun _ => 0) u.2.2.2 (cs_pl 3) (fun _ => 0) (fun _ => 0) (fun _ => 0) 0)[i]? = some p → (cs_wM u2.1 u2.2.1 u2.2.2 0 (fun _ => 0) (fun _ => 0) (fun _ => 0) (fun _ => false) (fun _ => false) (fun _ => false) (cs_pl 3) (fun _ => false))[j]? = some q → ¬ p.1 = q.1) := cs_apart hDJ
  refine lv_astore_n (lv' := [(2, .ref q2), (1, .ref q1), (0, .ref b)]) hx hb dL_law_15 rfl hl (by decide) rfl (fun ls hl => ?_)
  refine lv_iconst (v := nI 0) hx hb dL_law_16 (by decide) ?_
  refine lv_istore_n (lv' := [(3, .int (nI 0)), (2, .ref q2), (1, .ref q1), (0, .ref b)]) hx hb dL_law_17 rfl hl (by decide) rfl (fun ls hl => ?_)
  have hl : lv_has ls 4 [(3, .int (nI 0)), (2, .ref (u2.1 0)), (1, .ref (u.1 0)), (0, .ref b)] := by rw [hu0, hu2]; exact hl
  exact cl_loop hx hb hml hown hts hX hbl ⟨Nat.le_of_ble_eq_true rfl, Nat.le_of_ble_eq_true rfl⟩ hK1 hK3 hL hr hlocks rfl (L + 1) 0 (by omega) (by omega) _ _ ⟨0, _, _, _, _, _, _, _, u.2.2.2, _, _, _, _, 0, _, _, _, _, rfl, rfl, cs_J_0 hbs⟩ _ _ hP4 hP5 hD4 hD5 hap hS ls (lv_sub hl [3, 2, 1, 0] rfl)
end
section
set_option maxHeartbeats 4000000 in
theorem lw_walk (l : Launch) (b : Addr) (xs : List Int32) : MetFree l x (headSpec (Jvm.Cond.code x code maxLocals ret :: tables_1) room_1) (lw_P b xs) (fun _ _ _ _ _ => True) lw_Q := by
  refine MetFree.of_bodyS (code := code) (maxLocals := maxLocals) (ret := ret) (by decide) ?_ ?_
  · intro args s m h hn
    obtain ⟨meth, c, h1, h2, h3, h4, h5, h6, -, -⟩ := Cond.code_spec hn (atoms_spec (ws := Jvm.Cond.code x code maxLocals ret :: tables_1) h _ List.mem_cons_self)
    exact ⟨meth, c, h1, h2, h3, h4, h5, h6⟩
  · intro p e s m args below meth c s₁ B hml0 hP _
    obtain ⟨rfl, hx, hbd, hgv⟩ := hP
    obtain ⟨scr, harrAt, hlist, hof, hsmall⟩ := hx
    obtain ⟨hcb, hkn, -, -⟩ := State.arrayAt?_spec harrAt
    have hown : s.vm.findClass R_law = some m.cls := findClass_of_methodNamed B.named
    have hts0 : ∀ c ∈ (Jvm.Cond.code x code maxLocals ret :: tables_1), c.before #[Value.ref b] s = true := atoms_spec (ws := Jvm.Cond.code x code maxLocals ret :: tables_1) B.pre
    have hts : ∀ w ∈ lw_tbl, w.before #[Value.ref b] s = true := k2_hts_sels lw_privs (fun w hw => hts0 w (List.mem_cons_of_mem _ hw)) lw_privs_ok
    have hml : c.maxLocals = 4 := B.maxLocals_eq (hts0 _ List.mem_cons_self)
    have X₀ : Stand p l e room_1 s m #[Value.ref b] below meth c s₁ [] 0 0 := Stand.of_body B
    have hh0 : s₁.heap = s.heap := by rw [B.state]; rfl
    have hsz : scr.slots.size = xs.length := by rw [← Array.length_toList, hlist, List.length_map]
    have hval : ∀ j : Nat, j < xs.length → scr.slots[j]? = some (.int (xs.getD j 0)) := fun j hj => by
      rw [← Array.getElem?_toList, hlist]
      simp [hj]
    have hbl : b < s.heap.size := (Array.getElem?_eq_some_iff.mp hcb).1
    have hX : va_X b xs.length (fun j => xs.getD j 0) s s.heap := ⟨scr, hcb, hof, hkn, hsz, hval⟩
    have K : W p l e room_1 s m #[Value.ref b] below meth c s₁.heap [] 0 0 (lw_Z below #[Value.ref b] s) (entryFrame m ([Value.ref b] : List Value).toArray 4) := by
      rw [hh0]
      exact whole_start l hbd ⟨B.exec, B.bytes, B.returns, hml, hown, hts, hX, hbl, B.notSynchronized, hgv⟩
    obtain ⟨t, a1, o, b1, b2, b3⟩ := K s₁ rfl X₀
    exact ⟨t, o, a1, b1, b2, b3⟩
theorem lw_pre_spec {args : Array Value} {s : State} (h : (Jvm.Cond.and given_1 narrow_1).before args s = true) (hr : rest_1_c.before args s = true) : ∃ (b : Addr) (xs : List Int32), lw_P b xs args s := by
  have hs := flat_of_before _ h
  have hq := flat_of_before _ hr
  have hc : (Cond.count 1).before args s = true := hs _ (by decide +kernel)
  have harr : (Cond.arrayOf (.arg 0) .int).before args s = true := hs _ (by decide +kernel)
  have hle : (Cond.le (.length (.arg 0)) (.int 256)).before args s = true := hs _ (by decide +kernel)
  have hlen : (Cond.isInt (.length (.arg 0))).before args s = true := hq _ (by decide +kernel)
  have hall : (Cond.all (.arg 0) (.isInt (.elem (.arg 0) (.index 0)))).before args s = true := hq _ (by decide +kernel)
  obtain ⟨b, xs, hb, hx⟩ := State.ints_of_pre rfl harr hlen hall
  have hsm : xs.length < 2 ^ 31 := hx.choose_spec.2.2.2
  have hev : (Term.length (.arg 0)).eval args s none [] s = some (.int xs.length.toInt32) := hx.length_eval hb
  have hv := Cond.le_ints hev (show (Term.int 256).eval args s none [] s = some (.int 256) from rfl)
  have hd : xs.length.toInt32 ≤ 256 := by
    simpa [Cond.before, Cond.holds, hv] using hle
  have hN : xs.length ≤ 256 := (Int32.ofNat_le_ofNat hsm (by decide)).mp (show Int32.ofNat xs.length ≤ Int32.ofNat 256 from hd)
  exact ⟨b, xs, Cond.one_arg hc (show args[0]? = some (.ref b) from hb), hx, hN, h⟩
theorem lw_comes (l : Launch) : Comes l x (Jvm.Cond.code x code maxLocals ret :: tables_1) room_1 (fun tb e args s => Calls_1 tb e args s ∧ rest_1 tb e args s ∧ Pre_1 tb e args s)
    (fun _ _ args s o t => lw_Q args s o t) := by
  intro p e ha hc hk s m args below hf hfit hheap happ hpre
  obtain ⟨b, xs, hP⟩ := lw_pre_spec hpre.2.2 hpre.2.1
  obtain ⟨k, o, h1, h2, h3, hQ⟩ := lw_walk l b xs p e ha hc hk s m args below hf ((Spec.applies_iff_loose hf).mp happ).1 hP trivial
  exact ⟨k, o, h1, h2, h3, hQ⟩
theorem lw_frame {s t : State} {o : Outcome} {args : Array Value} (h : Framed s o t [] 600000 7290000) :
    Framed s o t (fieldLocs frame_1_writes args s ++ arrayLocs frame_1_arrays args s ++ staticLocs frame_1_statics s) 600000 7290000 := h
theorem lw_limb (L : Cond) (hL : ∀ (args : Array Value) (s t : State), L.after args s (.returned (some (.int 1))) t = true) :
    ArmFor flags0 classFile x code maxLocals ret World_1 tables_1 room_1 Calls_1 rest_1 Pre_1
      (fun tb e a s o t => postC L tb e a s o t ∧ Framed s o t (fieldLocs frame_1_writes a s ++ arrayLocs frame_1_arrays a s ++ staticLocs frame_1_statics s) 600000 7290000) := by
  intro l _ _ _ p e ha hc hk s m args below hf hfit hheap happ hpre
  obtain ⟨k, o, h1, h2, h3, rfl, hF⟩ := lw_comes l p e ha hc hk s m args below hf hfit hheap happ hpre
  exact ⟨k, _, h1, h2, h3, hL args s _, lw_frame hF⟩
theorem i_vc : Claimed_1_1 ∧ Claimed_1_2 := ⟨lw_limb limb_1_1 (fun args s t => by simp [limb_1_1, Cond.after, Cond.holds, Cond.value]), lw_limb limb_1_2 (fun args s t => Cond.after_iff.mpr (by
  first | (rw [show limb_1_2 = Cond.eq .result (.int 1) from rfl, Cond.eq_ints (x := 1) (y := 1) rfl rfl]; simp; done) | (simp [limb_1_2, Cond.value, Term.eval]; done)))⟩
end
