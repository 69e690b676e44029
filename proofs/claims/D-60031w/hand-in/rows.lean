section
-- ===== PART A: goes FIRST, ahead of the names: the tables' words, and 'selects' of the private methods out of them =====
/-- a private method of a class that the tables say can be made, by its rows of tables_1 -/
def lw_okq (q : MethodName × Nat) : Prop := (q.1.cls ≠ "java/lang/invoke/MethodHandle" ∧ q.1.cls ≠ "java/lang/invoke/VarHandle") ∧ Cond.instantiable q.1.cls q.2 ∈ tables_1 ∧ Cond.privateMethod q.1 ∈ tables_1 ∧ Cond.instanceMethod q.1 ∈ tables_1
set_option maxRecDepth 100000
theorem lw_t1 {w : Cond} (h : w ∈ tables_1_1) : w ∈ tables_1 := List.mem_append_left _ h
theorem lw_t2 {w : Cond} (h : w ∈ tables_1_2) : w ∈ tables_1 := List.mem_append_right _ h
theorem lw_p0 : lw_okq (⟨"SpongeDesk", "add", "(I)V"⟩, 9) := ⟨⟨by decide +kernel, by decide +kernel⟩, lw_t1 (List.mem_of_getElem? (i := 7) rfl), lw_t1 (List.mem_of_getElem? (i := 120) rfl), lw_t1 (List.mem_of_getElem? (i := 121) rfl)⟩
theorem lw_p1 : lw_okq (⟨"SpongeDesk$Sponge", "join", "(II)V"⟩, 9) := ⟨⟨by decide +kernel, by decide +kernel⟩, lw_t1 (List.mem_of_getElem? (i := 15) rfl), lw_t1 (List.mem_of_getElem? (i := 141) rfl), lw_t1 (List.mem_of_getElem? (i := 142) rfl)⟩
theorem lw_p2 : lw_okq (⟨"SpongeDesk$Sponge", "mix", "()V"⟩, 9) := ⟨⟨by decide +kernel, by decide +kernel⟩, lw_t1 (List.mem_of_getElem? (i := 15) rfl), lw_t1 (List.mem_of_getElem? (i := 148) rfl), lw_t1 (List.mem_of_getElem? (i := 149) rfl)⟩
theorem lw_p3 : lw_okq (⟨"SpongeDesk$Sponge", "columns", "()V"⟩, 9) := ⟨⟨by decide +kernel, by decide +kernel⟩, lw_t1 (List.mem_of_getElem? (i := 15) rfl), lw_t1 (List.mem_of_getElem? (i := 152) rfl), lw_t1 (List.mem_of_getElem? (i := 153) rfl)⟩
theorem lw_p4 : lw_okq (⟨"SpongeDesk$Sponge", "move", "()V"⟩, 9) := ⟨⟨by decide +kernel, by decide +kernel⟩, lw_t1 (List.mem_of_getElem? (i := 15) rfl), lw_t1 (List.mem_of_getElem? (i := 159) rfl), lw_t1 (List.mem_of_getElem? (i := 160) rfl)⟩
theorem lw_p5 : lw_okq (⟨"SpongeDesk$Sponge", "rows", "()V"⟩, 9) := ⟨⟨by decide +kernel, by decide +kernel⟩, lw_t1 (List.mem_of_getElem? (i := 15) rfl), lw_t1 (List.mem_of_getElem? (i := 163) rfl), lw_t1 (List.mem_of_getElem? (i := 164) rfl)⟩
theorem lw_p6 : lw_okq (⟨"SpongeDeskModel", "first", "(I)I"⟩, 13) := ⟨⟨by decide +kernel, by decide +kernel⟩, lw_t1 (List.mem_of_getElem? (i := 188) rfl), lw_t2 (List.mem_of_getElem? (i := 3) rfl), lw_t2 (List.mem_of_getElem? (i := 4) rfl)⟩
theorem lw_p7 : lw_okq (⟨"SpongeDeskModel", "many", "(II)I"⟩, 13) := ⟨⟨by decide +kernel, by decide +kernel⟩, lw_t1 (List.mem_of_getElem? (i := 188) rfl), lw_t2 (List.mem_of_getElem? (i := 20) rfl), lw_t2 (List.mem_of_getElem? (i := 21) rfl)⟩
theorem lw_p8 : lw_okq (⟨"SpongeDeskModel", "show", "(II)V"⟩, 13) := ⟨⟨by decide +kernel, by decide +kernel⟩, lw_t1 (List.mem_of_getElem? (i := 188) rfl), lw_t2 (List.mem_of_getElem? (i := 28) rfl), lw_t2 (List.mem_of_getElem? (i := 29) rfl)⟩
theorem lw_p9 : lw_okq (⟨"SpongeDeskModel", "rate", "()I"⟩, 13) := ⟨⟨by decide +kernel, by decide +kernel⟩, lw_t1 (List.mem_of_getElem? (i := 188) rfl), lw_t2 (List.mem_of_getElem? (i := 32) rfl), lw_t2 (List.mem_of_getElem? (i := 33) rfl)⟩
theorem lw_p10 : lw_okq (⟨"SpongeDeskModel", "mix", "()V"⟩, 13) := ⟨⟨by decide +kernel, by decide +kernel⟩, lw_t1 (List.mem_of_getElem? (i := 188) rfl), lw_t2 (List.mem_of_getElem? (i := 36) rfl), lw_t2 (List.mem_of_getElem? (i := 37) rfl)⟩
def lw_privs_1 : List (MethodName × Nat) := [(⟨"SpongeDesk", "add", "(I)V"⟩, 9), (⟨"SpongeDesk$Sponge", "join", "(II)V"⟩, 9), (⟨"SpongeDesk$Sponge", "mix", "()V"⟩, 9), (⟨"SpongeDesk$Sponge", "columns", "()V"⟩, 9), (⟨"SpongeDesk$Sponge", "move", "()V"⟩, 9), (⟨"SpongeDesk$Sponge", "rows", "()V"⟩, 9), (⟨"SpongeDeskModel", "first", "(I)I"⟩, 13), (⟨"SpongeDeskModel", "many", "(II)I"⟩, 13), (⟨"SpongeDeskModel", "show", "(II)V"⟩, 13), (⟨"SpongeDeskModel", "rate", "()I"⟩, 13), (⟨"SpongeDeskModel", "mix", "()V"⟩, 13)]
theorem lw_r1 : ∀ q ∈ lw_privs_1, lw_okq q := List.forall_mem_cons.mpr ⟨lw_p0, List.forall_mem_cons.mpr ⟨lw_p1, List.forall_mem_cons.mpr ⟨lw_p2, List.forall_mem_cons.mpr ⟨lw_p3, List.forall_mem_cons.mpr ⟨lw_p4, List.forall_mem_cons.mpr ⟨lw_p5, List.forall_mem_cons.mpr ⟨lw_p6, List.forall_mem_cons.mpr ⟨lw_p7, List.forall_mem_cons.mpr ⟨lw_p8, List.forall_mem_cons.mpr ⟨lw_p9, List.forall_mem_cons.mpr ⟨lw_p10, fun _ h => absurd h List.not_mem_nil⟩⟩⟩⟩⟩⟩⟩⟩⟩⟩⟩
def lw_privs : List (MethodName × Nat) := lw_privs_1
def lw_tbl : List Cond := k2_sels lw_privs ++ tables_1
theorem lw_privs_ok : ∀ q ∈ lw_privs, lw_okq q := lw_r1
-- ===== ONE list of words for every method: the tables' words that hold all through a run =====
def lw_all : List Cond := lw_tbl.filter goodWord
/-- a word of the tables by its place: claim/WORDS.tsv -/
theorem lw_w {w : Cond} (i : Nat) (h : lw_tbl[i]? = some w) (g : goodWord w = true) : w ∈ lw_all := List.mem_filter.mpr ⟨List.mem_of_getElem? h, g⟩
theorem lw_all_tbl {w : Cond} (h : w ∈ lw_all) : w ∈ lw_tbl := (List.mem_filter.mp h).1
theorem lw_self : GoodIn lw_all lw_all := fun w h => ⟨h, good_of_word (List.mem_filter.mp h).2⟩
/-- a class's field words, by their places -/
theorem lw_in (ws : List Cond) (ps : List Nat) (hp : ws = ps.filterMap (fun i => lw_tbl[i]?)) (hg : ws.all goodWord = true) : ∀ w ∈ ws, w ∈ lw_all := by
  intro w h
  have h1 := List.all_eq_true.mp hg w h
  rw [hp] at h
  obtain ⟨i, -, hi⟩ := List.mem_filterMap.mp h
  exact lw_w i hi h1
/-- the words of a contract for the method y with code b, L locals, answer r -/
abbrev ws_ (y : MethodName) (b : ByteArray) (L : Nat) (r : Option FieldType) : List Cond := Cond.code y b L r :: lw_all
theorem lw_meth {y : MethodName} {b : ByteArray} {L : Nat} {r : Option FieldType} (h : Cond.code y b L r ∈ lw_all) : GoodIn lw_all (ws_ y b L r) := by
  intro w hw
  rcases List.mem_cons.mp hw with e | e
  · rw [e]
    exact lw_self _ h
  · exact lw_self _ e
theorem lw_app {a c : List Cond} (ha : ∀ w ∈ a, w ∈ lw_all) (hc : GoodIn lw_all c) : GoodIn lw_all (a ++ c) := by
  intro w hw
  rcases List.mem_append.mp hw with e | e
  · exact lw_self w (ha w e)
  · exact hc w e
/-- what a call through an object asks: cwV n hts (lw_V ..) -/
theorem lw_V {own : String} {idx : Nat} {C : String} {y : MethodName} {b : ByteArray} {L : Nat} {r : Option FieldType} (h1 : Cond.methodLink own idx y ∈ lw_all) (h2 : Cond.instanceMethod y ∈ lw_all) (h3 : Cond.selects C y y ∈ lw_all) (h4 : Cond.initialized C ∈ lw_all) (h5 : Cond.code y b L r ∈ lw_all) : GoodIn lw_all (wsV own idx C y (ws_ y b L r)) := by
  refine lw_app ?_ (lw_meth h5)
  intro w hw
  simp only [List.mem_cons, List.not_mem_nil, or_false] at hw
  rcases hw with e | e | e | e
  · rw [e]; exact h1
  · rw [e]; exact h2
  · rw [e]; exact h3
  · rw [e]; exact h4
/-- what a static call asks: va_cwS n hts (lw_S ..) -/
theorem lw_S {own : String} {idx : Nat} {y : MethodName} {b : ByteArray} {L : Nat} {r : Option FieldType} (h1 : Cond.methodLink own idx y ∈ lw_all) (h2 : Cond.static y ∈ lw_all) (h3 : Cond.initialized y.cls ∈ lw_all) (h4 : Cond.code y b L r ∈ lw_all) : GoodIn lw_all (va_wsS own idx y (ws_ y b L r)) := by
  refine lw_app ?_ (lw_meth h4)
  intro w hw
  simp only [List.mem_cons, List.not_mem_nil, or_false] at hw
  rcases hw with e | e | e
  · rw [e]; exact h1
  · rw [e]; exact h2
  · rw [e]; exact h3
/-- the words of a contract for a method WITH HANDLERS (hh: its table) -/
abbrev wsW_ (y : MethodName) (b : ByteArray) (L : Nat) (r : Option FieldType) (hh : List (Nat × Nat × Nat × Nat)) : List Cond := Cond.codeWith y b L r hh :: lw_all
theorem lw_methW {y : MethodName} {b : ByteArray} {L : Nat} {r : Option FieldType} {hh : List (Nat × Nat × Nat × Nat)} (h : Cond.codeWith y b L r hh ∈ lw_all) : GoodIn lw_all (wsW_ y b L r hh) := by
  intro w hw
  rcases List.mem_cons.mp hw with e | e
  · rw [e]
    exact lw_self _ h
  · exact lw_self _ e
/-- any list of words by their places (lw_in), good -/
theorem lw_good {ws : List Cond} (h : ∀ w ∈ ws, w ∈ lw_all) : GoodIn lw_all ws := fun w hw => lw_self w (h w hw)
/-- what a call of a method with handlers asks: vx_cwVW n hts (lw_VW ..), vx_cwSW n hts (lw_SW ..) -/
theorem lw_VW {own : String} {idx : Nat} {C : String} {y : MethodName} {b : ByteArray} {L : Nat} {r : Option FieldType} {hh : List (Nat × Nat × Nat × Nat)} (h1 : Cond.methodLink own idx y ∈ lw_all) (h2 : Cond.instanceMethod y ∈ lw_all) (h3 : Cond.selects C y y ∈ lw_all) (h4 : Cond.initialized C ∈ lw_all) (h5 : Cond.codeWith y b L r hh ∈ lw_all) : GoodIn lw_all (wsV own idx C y (wsW_ y b L r hh)) := by
  refine lw_app ?_ (lw_methW h5)
  intro w hw
  simp only [List.mem_cons, List.not_mem_nil, or_false] at hw
  rcases hw with e | e | e | e
  · rw [e]; exact h1
  · rw [e]; exact h2
  · rw [e]; exact h3
  · rw [e]; exact h4
theorem lw_SW {own : String} {idx : Nat} {y : MethodName} {b : ByteArray} {L : Nat} {r : Option FieldType} {hh : List (Nat × Nat × Nat × Nat)} (h1 : Cond.methodLink own idx y ∈ lw_all) (h2 : Cond.static y ∈ lw_all) (h3 : Cond.initialized y.cls ∈ lw_all) (h4 : Cond.codeWith y b L r hh ∈ lw_all) : GoodIn lw_all (va_wsS own idx y (wsW_ y b L r hh)) := by
  refine lw_app ?_ (lw_methW h4)
  intro w hw
  simp only [List.mem_cons, List.not_mem_nil, or_false] at hw
  rcases hw with e | e | e
  · rw [e]; exact h1
  · rw [e]; exact h2
  · rw [e]; exact h3
/-- a word by its place in its run of the tables -/
theorem lw_at {r : List Cond} (hr : ∀ w ∈ r, w ∈ lw_tbl) {w : Cond} (i : Nat) (h : r[i]? = some w) : w ∈ lw_tbl := hr w (List.mem_of_getElem? h)
theorem lw_g {w : Cond} (h : w ∈ lw_tbl) (g : goodWord w = true) : w ∈ lw_all := List.mem_filter.mpr ⟨h, g⟩
theorem lw_ms : ∀ w ∈ k2_sels lw_privs, w ∈ lw_tbl := fun w h => show w ∈ k2_sels lw_privs ++ tables_1 from List.mem_append_left _ h
theorem lw_m1 : ∀ w ∈ tables_1_1, w ∈ lw_tbl := fun w h => show w ∈ k2_sels lw_privs ++ tables_1 from List.mem_append_right (k2_sels lw_privs) (show w ∈ tables_1 from List.mem_append_left _ h)
theorem lw_m2 : ∀ w ∈ tables_1_2, w ∈ lw_tbl := fun w h => show w ∈ k2_sels lw_privs ++ tables_1 from List.mem_append_right (k2_sels lw_privs) (show w ∈ tables_1 from List.mem_append_right _ h)
theorem qs0 : (Cond.selects "SpongeDesk" ⟨"SpongeDesk", "add", "(I)V"⟩ ⟨"SpongeDesk", "add", "(I)V"⟩) ∈ lw_all := lw_g (lw_at lw_ms 0 rfl) rfl
theorem qs1 : (Cond.selects "SpongeDesk$Sponge" ⟨"SpongeDesk$Sponge", "join", "(II)V"⟩ ⟨"SpongeDesk$Sponge", "join", "(II)V"⟩) ∈ lw_all := lw_g (lw_at lw_ms 1 rfl) rfl
theorem qs2 : (Cond.selects "SpongeDesk$Sponge" ⟨"SpongeDesk$Sponge", "mix", "()V"⟩ ⟨"SpongeDesk$Sponge", "mix", "()V"⟩) ∈ lw_all := lw_g (lw_at lw_ms 2 rfl) rfl
theorem qs3 : (Cond.selects "SpongeDesk$Sponge" ⟨"SpongeDesk$Sponge", "columns", "()V"⟩ ⟨"SpongeDesk$Sponge", "columns", "()V"⟩) ∈ lw_all := lw_g (lw_at lw_ms 3 rfl) rfl
theorem qs4 : (Cond.selects "SpongeDesk$Sponge" ⟨"SpongeDesk$Sponge", "move", "()V"⟩ ⟨"SpongeDesk$Sponge", "move", "()V"⟩) ∈ lw_all := lw_g (lw_at lw_ms 4 rfl) rfl
theorem qs5 : (Cond.selects "SpongeDesk$Sponge" ⟨"SpongeDesk$Sponge", "rows", "()V"⟩ ⟨"SpongeDesk$Sponge", "rows", "()V"⟩) ∈ lw_all := lw_g (lw_at lw_ms 5 rfl) rfl
theorem qs6 : (Cond.selects "SpongeDeskModel" ⟨"SpongeDeskModel", "first", "(I)I"⟩ ⟨"SpongeDeskModel", "first", "(I)I"⟩) ∈ lw_all := lw_g (lw_at lw_ms 6 rfl) rfl
theorem qs7 : (Cond.selects "SpongeDeskModel" ⟨"SpongeDeskModel", "many", "(II)I"⟩ ⟨"SpongeDeskModel", "many", "(II)I"⟩) ∈ lw_all := lw_g (lw_at lw_ms 7 rfl) rfl
theorem qs8 : (Cond.selects "SpongeDeskModel" ⟨"SpongeDeskModel", "show", "(II)V"⟩ ⟨"SpongeDeskModel", "show", "(II)V"⟩) ∈ lw_all := lw_g (lw_at lw_ms 8 rfl) rfl
theorem qs9 : (Cond.selects "SpongeDeskModel" ⟨"SpongeDeskModel", "rate", "()I"⟩ ⟨"SpongeDeskModel", "rate", "()I"⟩) ∈ lw_all := lw_g (lw_at lw_ms 9 rfl) rfl
theorem qs10 : (Cond.selects "SpongeDeskModel" ⟨"SpongeDeskModel", "mix", "()V"⟩ ⟨"SpongeDeskModel", "mix", "()V"⟩) ∈ lw_all := lw_g (lw_at lw_ms 10 rfl) rfl

/-! SpongeDesk -/
def RX0 : String := "SpongeDesk"
def TX0 : u_T := fun k => match k with
  | 0 => ("SpongeDesk", "text", "[B", true)
  | 1 => ("SpongeDesk", "kept", "[B", true)
  | 2 => ("SpongeDesk", "sponge", "LSpongeDesk$Sponge;", true)
  | 3 => ("SpongeDesk", "length", "I", false)
  | 4 => ("SpongeDesk", "kind", "I", false)
  | 5 => ("SpongeDesk", "fed", "I", false)
  | 6 => ("SpongeDesk", "given", "I", false)
  | 7 => ("SpongeDesk", "keptLength", "I", false)
  | _ => ("SpongeDesk", "closed", "Z", false)
def tyX0 : Nat → FieldType := fun k => match k with
  | 0 => .array .byte
  | 1 => .array .byte
  | 2 => .object "SpongeDesk$Sponge"
  | 3 => .int
  | 4 => .int
  | 5 => .int
  | 6 => .int
  | 7 => .int
  | _ => .boolean
abbrev wsX00 : List Cond := u_ws RX0 TX0 9
theorem nmX0 : ∀ a, a < 9 → ∀ b, b < 9 → a ≠ b → (TX0 a).2.1 ≠ (TX0 b).2.1 := by decide +kernel
theorem tyX0_ok : ∀ k, k < 9 → parseFieldDescriptor (TX0 k).2.2.1 = some (tyX0 k) := by decide +kernel
abbrev cX0_init : ByteArray := prog_1_method_1_code
def yX0_init : MethodName := ⟨RX0, "<init>", "()V"⟩
abbrev cX0_begin : ByteArray := prog_1_method_7_code
def yX0_begin : MethodName := ⟨RX0, "begin", "(I)V"⟩
abbrev cX0_below : ByteArray := prog_1_method_4_code
def yX0_below : MethodName := ⟨RX0, "below", "(II)I"⟩
abbrev cX0_put : ByteArray := prog_1_method_2_code
def yX0_put : MethodName := ⟨RX0, "put", "(IIII)Z"⟩
abbrev cX0_add : ByteArray := prog_1_method_3_code
def yX0_add : MethodName := ⟨RX0, "add", "(I)V"⟩
abbrev cX0_trim : ByteArray := prog_1_method_5_code
def yX0_trim : MethodName := ⟨RX0, "trim", "(I)V"⟩
abbrev cX0_size : ByteArray := prog_1_method_6_code
def yX0_size : MethodName := ⟨RX0, "size", "()I"⟩
abbrev cX0_feed : ByteArray := prog_1_method_8_code
def yX0_feed : MethodName := ⟨RX0, "feed", "(II)Z"⟩
abbrev cX0_close : ByteArray := prog_1_method_9_code
def yX0_close : MethodName := ⟨RX0, "close", "(I)I"⟩
abbrev cX0_answer : ByteArray := prog_1_method_10_code
def yX0_answer : MethodName := ⟨RX0, "answer", "(I)I"⟩
theorem q12 : (Jvm.Cond.initialized "SpongeDesk") ∈ lw_all := lw_g (lw_at lw_m1 1 rfl) rfl
theorem q18 : (Jvm.Cond.instantiable "SpongeDesk" (9 : Nat)) ∈ lw_all := lw_g (lw_at lw_m1 7 rfl) rfl
theorem q20 : (Jvm.Cond.instanceMethod ({ cls := "SpongeDesk", name := "<init>", desc := "()V" } : Jvm.MethodName)) ∈ lw_all := lw_g (lw_at lw_m1 9 rfl) rfl
theorem q21 : (Jvm.Cond.code ({ cls := "SpongeDesk", name := "<init>", desc := "()V" } : Jvm.MethodName) prog_1_method_1_code (1 : Nat) (Option.none : Option Jvm.ClassFile.FieldType)) ∈ lw_all := lw_g (lw_at lw_m1 10 rfl) rfl
theorem q22 : (Jvm.Cond.methodLink "SpongeDesk" (1 : Nat) ({ cls := "java/lang/Object", name := "<init>", desc := "()V" } : Jvm.MethodName)) ∈ lw_all := lw_g (lw_at lw_m1 11 rfl) rfl
theorem q25 : (Jvm.Cond.classLink "SpongeDesk" (16 : Nat) "SpongeDesk$Sponge") ∈ lw_all := lw_g (lw_at lw_m1 14 rfl) rfl
theorem q27 : (Jvm.Cond.methodLinkNest "SpongeDesk" (18 : Nat) ({ cls := "SpongeDesk$Sponge", name := "<init>", desc := "()V" } : Jvm.MethodName) "SpongeDesk") ∈ lw_tbl := lw_at lw_m1 16 rfl
theorem q84 : (Jvm.Cond.methodLink "SpongeDesk" (23 : Nat) ({ cls := "SpongeDesk", name := "begin", desc := "(I)V" } : Jvm.MethodName)) ∈ lw_all := lw_g (lw_at lw_m1 73 rfl) rfl
theorem q85 : (Jvm.Cond.instanceMethod ({ cls := "SpongeDesk", name := "begin", desc := "(I)V" } : Jvm.MethodName)) ∈ lw_all := lw_g (lw_at lw_m1 74 rfl) rfl
theorem q86 : (Jvm.Cond.selects "SpongeDesk" ({ cls := "SpongeDesk", name := "begin", desc := "(I)V" } : Jvm.MethodName) ({ cls := "SpongeDesk", name := "begin", desc := "(I)V" } : Jvm.MethodName)) ∈ lw_all := lw_g (lw_at lw_m1 75 rfl) rfl
theorem q87 : (Jvm.Cond.code ({ cls := "SpongeDesk", name := "begin", desc := "(I)V" } : Jvm.MethodName) prog_1_method_7_code (2 : Nat) (Option.none : Option Jvm.ClassFile.FieldType)) ∈ lw_all := lw_g (lw_at lw_m1 76 rfl) rfl
theorem q88 : (Jvm.Cond.methodLink "SpongeDesk" (37 : Nat) ({ cls := "SpongeDesk", name := "below", desc := "(II)I" } : Jvm.MethodName)) ∈ lw_all := lw_g (lw_at lw_m1 77 rfl) rfl
theorem q89 : (Jvm.Cond.static ({ cls := "SpongeDesk", name := "below", desc := "(II)I" } : Jvm.MethodName)) ∈ lw_all := lw_g (lw_at lw_m1 78 rfl) rfl
theorem q90 : (Jvm.Cond.code ({ cls := "SpongeDesk", name := "below", desc := "(II)I" } : Jvm.MethodName) prog_1_method_4_code (2 : Nat) (Option.some Jvm.ClassFile.FieldType.int)) ∈ lw_all := lw_g (lw_at lw_m1 79 rfl) rfl
theorem q91 : (Jvm.Cond.constant "SpongeDesk" (36 : Nat) (2147483647 : Int32)) ∈ lw_all := lw_g (lw_at lw_m1 80 rfl) rfl
theorem q92 : (Jvm.Cond.fieldLink "SpongeDesk" (44 : Nat) "SpongeDesk" "RATES" "[I") ∈ lw_all := lw_g (lw_at lw_m1 81 rfl) rfl
theorem q93 : (Jvm.Cond.laysStatic "SpongeDesk" "RATES" "[I") ∈ lw_tbl := lw_at lw_m1 82 rfl
theorem q94 : (Jvm.Cond.methodLink "SpongeDesk" (48 : Nat) ({ cls := "SpongeDesk$Sponge", name := "begin", desc := "(I)V" } : Jvm.MethodName)) ∈ lw_all := lw_g (lw_at lw_m1 83 rfl) rfl
theorem q98 : (Jvm.Cond.fieldLink "SpongeDesk" (9 : Nat) "SpongeDesk" "text" "[B") ∈ lw_all := lw_g (lw_at lw_m1 87 rfl) rfl
theorem q99 : (Jvm.Cond.fieldLink "SpongeDesk" (13 : Nat) "SpongeDesk" "kept" "[B") ∈ lw_all := lw_g (lw_at lw_m1 88 rfl) rfl
theorem q100 : (Jvm.Cond.fieldLink "SpongeDesk" (19 : Nat) "SpongeDesk" "sponge" "LSpongeDesk$Sponge;") ∈ lw_all := lw_g (lw_at lw_m1 89 rfl) rfl
theorem q101 : (Jvm.Cond.fieldLink "SpongeDesk" (27 : Nat) "SpongeDesk" "length" "I") ∈ lw_all := lw_g (lw_at lw_m1 90 rfl) rfl
theorem q102 : (Jvm.Cond.fieldLink "SpongeDesk" (41 : Nat) "SpongeDesk" "kind" "I") ∈ lw_all := lw_g (lw_at lw_m1 91 rfl) rfl
theorem q103 : (Jvm.Cond.fieldLink "SpongeDesk" (49 : Nat) "SpongeDesk" "fed" "I") ∈ lw_all := lw_g (lw_at lw_m1 92 rfl) rfl
theorem q104 : (Jvm.Cond.fieldLink "SpongeDesk" (52 : Nat) "SpongeDesk" "given" "I") ∈ lw_all := lw_g (lw_at lw_m1 93 rfl) rfl
theorem q105 : (Jvm.Cond.fieldLink "SpongeDesk" (59 : Nat) "SpongeDesk" "keptLength" "I") ∈ lw_all := lw_g (lw_at lw_m1 94 rfl) rfl
theorem q106 : (Jvm.Cond.fieldLink "SpongeDesk" (55 : Nat) "SpongeDesk" "closed" "Z") ∈ lw_all := lw_g (lw_at lw_m1 95 rfl) rfl
theorem q107 : (Jvm.Cond.laysFinal "SpongeDesk" "SpongeDesk" "text" "[B") ∈ lw_all := lw_g (lw_at lw_m1 96 rfl) rfl
theorem q108 : (Jvm.Cond.soleField "SpongeDesk" "text") ∈ lw_all := lw_g (lw_at lw_m1 97 rfl) rfl
theorem q109 : (Jvm.Cond.laysFinal "SpongeDesk" "SpongeDesk" "kept" "[B") ∈ lw_all := lw_g (lw_at lw_m1 98 rfl) rfl
theorem q110 : (Jvm.Cond.soleField "SpongeDesk" "kept") ∈ lw_all := lw_g (lw_at lw_m1 99 rfl) rfl
theorem q111 : (Jvm.Cond.laysFinal "SpongeDesk" "SpongeDesk" "sponge" "LSpongeDesk$Sponge;") ∈ lw_all := lw_g (lw_at lw_m1 100 rfl) rfl
theorem q112 : (Jvm.Cond.soleField "SpongeDesk" "sponge") ∈ lw_all := lw_g (lw_at lw_m1 101 rfl) rfl
theorem q113 : (Jvm.Cond.lays "SpongeDesk" "SpongeDesk" "length" "I") ∈ lw_all := lw_g (lw_at lw_m1 102 rfl) rfl
theorem q114 : (Jvm.Cond.soleField "SpongeDesk" "length") ∈ lw_all := lw_g (lw_at lw_m1 103 rfl) rfl
theorem q115 : (Jvm.Cond.lays "SpongeDesk" "SpongeDesk" "kind" "I") ∈ lw_all := lw_g (lw_at lw_m1 104 rfl) rfl
theorem q116 : (Jvm.Cond.soleField "SpongeDesk" "kind") ∈ lw_all := lw_g (lw_at lw_m1 105 rfl) rfl
theorem q117 : (Jvm.Cond.lays "SpongeDesk" "SpongeDesk" "fed" "I") ∈ lw_all := lw_g (lw_at lw_m1 106 rfl) rfl
theorem q118 : (Jvm.Cond.soleField "SpongeDesk" "fed") ∈ lw_all := lw_g (lw_at lw_m1 107 rfl) rfl
theorem q119 : (Jvm.Cond.lays "SpongeDesk" "SpongeDesk" "given" "I") ∈ lw_all := lw_g (lw_at lw_m1 108 rfl) rfl
theorem q120 : (Jvm.Cond.soleField "SpongeDesk" "given") ∈ lw_all := lw_g (lw_at lw_m1 109 rfl) rfl
theorem q121 : (Jvm.Cond.lays "SpongeDesk" "SpongeDesk" "keptLength" "I") ∈ lw_all := lw_g (lw_at lw_m1 110 rfl) rfl
theorem q122 : (Jvm.Cond.soleField "SpongeDesk" "keptLength") ∈ lw_all := lw_g (lw_at lw_m1 111 rfl) rfl
theorem q123 : (Jvm.Cond.lays "SpongeDesk" "SpongeDesk" "closed" "Z") ∈ lw_all := lw_g (lw_at lw_m1 112 rfl) rfl
theorem q124 : (Jvm.Cond.soleField "SpongeDesk" "closed") ∈ lw_all := lw_g (lw_at lw_m1 113 rfl) rfl
theorem q125 : (Jvm.Cond.superclass "SpongeDesk" "java/lang/Object") ∈ lw_all := lw_g (lw_at lw_m1 114 rfl) rfl
theorem q127 : (Jvm.Cond.instanceMethod ({ cls := "SpongeDesk", name := "put", desc := "(IIII)Z" } : Jvm.MethodName)) ∈ lw_all := lw_g (lw_at lw_m1 116 rfl) rfl
theorem q128 : (Jvm.Cond.selects "SpongeDesk" ({ cls := "SpongeDesk", name := "put", desc := "(IIII)Z" } : Jvm.MethodName) ({ cls := "SpongeDesk", name := "put", desc := "(IIII)Z" } : Jvm.MethodName)) ∈ lw_all := lw_g (lw_at lw_m1 117 rfl) rfl
theorem q129 : (Jvm.Cond.code ({ cls := "SpongeDesk", name := "put", desc := "(IIII)Z" } : Jvm.MethodName) prog_1_method_2_code (5 : Nat) (Option.some Jvm.ClassFile.FieldType.boolean)) ∈ lw_all := lw_g (lw_at lw_m1 118 rfl) rfl
theorem q130 : (Jvm.Cond.methodLink "SpongeDesk" (31 : Nat) ({ cls := "SpongeDesk", name := "add", desc := "(I)V" } : Jvm.MethodName)) ∈ lw_all := lw_g (lw_at lw_m1 119 rfl) rfl
theorem q131 : (Jvm.Cond.privateMethod ({ cls := "SpongeDesk", name := "add", desc := "(I)V" } : Jvm.MethodName)) ∈ lw_tbl := lw_at lw_m1 120 rfl
theorem q132 : (Jvm.Cond.instanceMethod ({ cls := "SpongeDesk", name := "add", desc := "(I)V" } : Jvm.MethodName)) ∈ lw_all := lw_g (lw_at lw_m1 121 rfl) rfl
theorem q133 : (Jvm.Cond.code ({ cls := "SpongeDesk", name := "add", desc := "(I)V" } : Jvm.MethodName) prog_1_method_3_code (3 : Nat) (Option.none : Option Jvm.ClassFile.FieldType)) ∈ lw_all := lw_g (lw_at lw_m1 122 rfl) rfl
theorem q135 : (Jvm.Cond.instanceMethod ({ cls := "SpongeDesk", name := "trim", desc := "(I)V" } : Jvm.MethodName)) ∈ lw_all := lw_g (lw_at lw_m1 124 rfl) rfl
theorem q136 : (Jvm.Cond.selects "SpongeDesk" ({ cls := "SpongeDesk", name := "trim", desc := "(I)V" } : Jvm.MethodName) ({ cls := "SpongeDesk", name := "trim", desc := "(I)V" } : Jvm.MethodName)) ∈ lw_all := lw_g (lw_at lw_m1 125 rfl) rfl
theorem q137 : (Jvm.Cond.code ({ cls := "SpongeDesk", name := "trim", desc := "(I)V" } : Jvm.MethodName) prog_1_method_5_code (2 : Nat) (Option.none : Option Jvm.ClassFile.FieldType)) ∈ lw_all := lw_g (lw_at lw_m1 126 rfl) rfl
theorem q139 : (Jvm.Cond.instanceMethod ({ cls := "SpongeDesk", name := "size", desc := "()I" } : Jvm.MethodName)) ∈ lw_all := lw_g (lw_at lw_m1 128 rfl) rfl
theorem q140 : (Jvm.Cond.selects "SpongeDesk" ({ cls := "SpongeDesk", name := "size", desc := "()I" } : Jvm.MethodName) ({ cls := "SpongeDesk", name := "size", desc := "()I" } : Jvm.MethodName)) ∈ lw_all := lw_g (lw_at lw_m1 129 rfl) rfl
theorem q141 : (Jvm.Cond.code ({ cls := "SpongeDesk", name := "size", desc := "()I" } : Jvm.MethodName) prog_1_method_6_code (1 : Nat) (Option.some Jvm.ClassFile.FieldType.int)) ∈ lw_all := lw_g (lw_at lw_m1 130 rfl) rfl
theorem q144 : (Jvm.Cond.instanceMethod ({ cls := "SpongeDesk", name := "feed", desc := "(II)Z" } : Jvm.MethodName)) ∈ lw_all := lw_g (lw_at lw_m1 133 rfl) rfl
theorem q145 : (Jvm.Cond.selects "SpongeDesk" ({ cls := "SpongeDesk", name := "feed", desc := "(II)Z" } : Jvm.MethodName) ({ cls := "SpongeDesk", name := "feed", desc := "(II)Z" } : Jvm.MethodName)) ∈ lw_all := lw_g (lw_at lw_m1 134 rfl) rfl
theorem q146 : (Jvm.Cond.code ({ cls := "SpongeDesk", name := "feed", desc := "(II)Z" } : Jvm.MethodName) prog_1_method_8_code (6 : Nat) (Option.some Jvm.ClassFile.FieldType.boolean)) ∈ lw_all := lw_g (lw_at lw_m1 135 rfl) rfl
theorem q147 : (Jvm.Cond.methodLink "SpongeDesk" (62 : Nat) ({ cls := "SpongeDesk$Sponge", name := "take", desc := "(I)V" } : Jvm.MethodName)) ∈ lw_all := lw_g (lw_at lw_m1 136 rfl) rfl
theorem q178 : (Jvm.Cond.instanceMethod ({ cls := "SpongeDesk", name := "close", desc := "(I)I" } : Jvm.MethodName)) ∈ lw_all := lw_g (lw_at lw_m1 167 rfl) rfl
theorem q179 : (Jvm.Cond.selects "SpongeDesk" ({ cls := "SpongeDesk", name := "close", desc := "(I)I" } : Jvm.MethodName) ({ cls := "SpongeDesk", name := "close", desc := "(I)I" } : Jvm.MethodName)) ∈ lw_all := lw_g (lw_at lw_m1 168 rfl) rfl
theorem q180 : (Jvm.Cond.code ({ cls := "SpongeDesk", name := "close", desc := "(I)I" } : Jvm.MethodName) prog_1_method_9_code (5 : Nat) (Option.some Jvm.ClassFile.FieldType.int)) ∈ lw_all := lw_g (lw_at lw_m1 169 rfl) rfl
theorem q181 : (Jvm.Cond.fieldLink "SpongeDesk" (65 : Nat) "SpongeDesk" "SUMS" "[I") ∈ lw_all := lw_g (lw_at lw_m1 170 rfl) rfl
theorem q182 : (Jvm.Cond.laysStatic "SpongeDesk" "SUMS" "[I") ∈ lw_tbl := lw_at lw_m1 171 rfl
theorem q183 : (Jvm.Cond.methodLink "SpongeDesk" (68 : Nat) ({ cls := "SpongeDesk$Sponge", name := "end", desc := "(I)V" } : Jvm.MethodName)) ∈ lw_all := lw_g (lw_at lw_m1 172 rfl) rfl
theorem q187 : (Jvm.Cond.methodLink "SpongeDesk" (71 : Nat) ({ cls := "SpongeDesk$Sponge", name := "give", desc := "()I" } : Jvm.MethodName)) ∈ lw_all := lw_g (lw_at lw_m1 176 rfl) rfl
theorem q195 : (Jvm.Cond.instanceMethod ({ cls := "SpongeDesk", name := "answer", desc := "(I)I" } : Jvm.MethodName)) ∈ lw_all := lw_g (lw_at lw_m1 184 rfl) rfl
theorem q196 : (Jvm.Cond.selects "SpongeDesk" ({ cls := "SpongeDesk", name := "answer", desc := "(I)I" } : Jvm.MethodName) ({ cls := "SpongeDesk", name := "answer", desc := "(I)I" } : Jvm.MethodName)) ∈ lw_all := lw_g (lw_at lw_m1 185 rfl) rfl
theorem q197 : (Jvm.Cond.code ({ cls := "SpongeDesk", name := "answer", desc := "(I)I" } : Jvm.MethodName) prog_1_method_10_code (2 : Nat) (Option.some Jvm.ClassFile.FieldType.int)) ∈ lw_all := lw_g (lw_at lw_m1 186 rfl) rfl
theorem in_X0 : ∀ w ∈ wsX00, w ∈ lw_all := lw_in wsX00 [107, 109, 111, 113, 115, 117, 119, 121, 123] (by decide +kernel) (by decide +kernel)
/-! SpongeDesk$Sponge -/
def RX1 : String := "SpongeDesk$Sponge"
def TX1 : u_T := fun k => match k with
  | 0 => ("SpongeDesk$Sponge", "rules", "LSpongeDesk$Rules;", true)
  | 1 => ("SpongeDesk$Sponge", "even", "[I", true)
  | 2 => ("SpongeDesk$Sponge", "odd", "[I", true)
  | 3 => ("SpongeDesk$Sponge", "movedEven", "[I", true)
  | 4 => ("SpongeDesk$Sponge", "movedOdd", "[I", true)
  | 5 => ("SpongeDesk$Sponge", "sumEven", "[I", true)
  | 6 => ("SpongeDesk$Sponge", "sumOdd", "[I", true)
  | 7 => ("SpongeDesk$Sponge", "rate", "I", false)
  | _ => ("SpongeDesk$Sponge", "at", "I", false)
def tyX1 : Nat → FieldType := fun k => match k with
  | 0 => .object "SpongeDesk$Rules"
  | 1 => .array .int
  | 2 => .array .int
  | 3 => .array .int
  | 4 => .array .int
  | 5 => .array .int
  | 6 => .array .int
  | 7 => .int
  | _ => .int
abbrev wsX10 : List Cond := u_ws RX1 TX1 9
theorem nmX1 : ∀ a, a < 9 → ∀ b, b < 9 → a ≠ b → (TX1 a).2.1 ≠ (TX1 b).2.1 := by decide +kernel
theorem tyX1_ok : ∀ k, k < 9 → parseFieldDescriptor (TX1 k).2.2.1 = some (tyX1 k) := by decide +kernel
abbrev cX1_init : ByteArray := prog_3_method_1_code
def yX1_init : MethodName := ⟨RX1, "<init>", "()V"⟩
abbrev cX1_begin : ByteArray := prog_3_method_2_code
def yX1_begin : MethodName := ⟨RX1, "begin", "(I)V"⟩
abbrev cX1_take : ByteArray := prog_3_method_6_code
def yX1_take : MethodName := ⟨RX1, "take", "(I)V"⟩
abbrev cX1_join : ByteArray := prog_3_method_5_code
def yX1_join : MethodName := ⟨RX1, "join", "(II)V"⟩
abbrev cX1_half : ByteArray := prog_3_method_3_code
def yX1_half : MethodName := ⟨RX1, "half", "(I)I"⟩
abbrev cX1_mix : ByteArray := prog_3_method_9_code
def yX1_mix : MethodName := ⟨RX1, "mix", "()V"⟩
abbrev cX1_columns : ByteArray := prog_3_method_10_code
def yX1_columns : MethodName := ⟨RX1, "columns", "()V"⟩
abbrev cX1_move : ByteArray := prog_3_method_11_code
def yX1_move : MethodName := ⟨RX1, "move", "()V"⟩
abbrev cX1_rows : ByteArray := prog_3_method_12_code
def yX1_rows : MethodName := ⟨RX1, "rows", "()V"⟩
abbrev cX1_end : ByteArray := prog_3_method_7_code
def yX1_end : MethodName := ⟨RX1, "end", "(I)V"⟩
abbrev cX1_give : ByteArray := prog_3_method_8_code
def yX1_give : MethodName := ⟨RX1, "give", "()I"⟩
abbrev cX1_apart : ByteArray := prog_3_method_4_code
def yX1_apart : MethodName := ⟨RX1, "apart", "(I)I"⟩
theorem q13 : (Jvm.Cond.initialized "SpongeDesk$Sponge") ∈ lw_all := lw_g (lw_at lw_m1 2 rfl) rfl
theorem q26 : (Jvm.Cond.instantiable "SpongeDesk$Sponge" (9 : Nat)) ∈ lw_all := lw_g (lw_at lw_m1 15 rfl) rfl
theorem q28 : (Jvm.Cond.instanceMethod ({ cls := "SpongeDesk$Sponge", name := "<init>", desc := "()V" } : Jvm.MethodName)) ∈ lw_all := lw_g (lw_at lw_m1 17 rfl) rfl
theorem q29 : (Jvm.Cond.code ({ cls := "SpongeDesk$Sponge", name := "<init>", desc := "()V" } : Jvm.MethodName) prog_3_method_1_code (1 : Nat) (Option.none : Option Jvm.ClassFile.FieldType)) ∈ lw_all := lw_g (lw_at lw_m1 18 rfl) rfl
theorem q30 : (Jvm.Cond.methodLink "SpongeDesk$Sponge" (3 : Nat) ({ cls := "java/lang/Object", name := "<init>", desc := "()V" } : Jvm.MethodName)) ∈ lw_all := lw_g (lw_at lw_m1 19 rfl) rfl
theorem q31 : (Jvm.Cond.classLink "SpongeDesk$Sponge" (9 : Nat) "SpongeDesk$Rules") ∈ lw_all := lw_g (lw_at lw_m1 20 rfl) rfl
theorem q33 : (Jvm.Cond.methodLink "SpongeDesk$Sponge" (11 : Nat) ({ cls := "SpongeDesk$Rules", name := "<init>", desc := "()V" } : Jvm.MethodName)) ∈ lw_all := lw_g (lw_at lw_m1 22 rfl) rfl
theorem q38 : (Jvm.Cond.fieldLink "SpongeDesk$Sponge" (79 : Nat) "SpongeDesk$Rules" "turn" "[I") ∈ lw_all := lw_g (lw_at lw_m1 27 rfl) rfl
theorem q40 : (Jvm.Cond.fieldLink "SpongeDesk$Sponge" (82 : Nat) "SpongeDesk$Rules" "to" "[I") ∈ lw_all := lw_g (lw_at lw_m1 29 rfl) rfl
theorem q42 : (Jvm.Cond.fieldLink "SpongeDesk$Sponge" (67 : Nat) "SpongeDesk$Rules" "evenOf" "[I") ∈ lw_all := lw_g (lw_at lw_m1 31 rfl) rfl
theorem q44 : (Jvm.Cond.fieldLink "SpongeDesk$Sponge" (70 : Nat) "SpongeDesk$Rules" "oddOf" "[I") ∈ lw_all := lw_g (lw_at lw_m1 33 rfl) rfl
theorem q56 : (Jvm.Cond.fieldLink "SpongeDesk$Sponge" (12 : Nat) "SpongeDesk$Sponge" "rules" "LSpongeDesk$Rules;") ∈ lw_all := lw_g (lw_at lw_m1 45 rfl) rfl
theorem q57 : (Jvm.Cond.fieldLink "SpongeDesk$Sponge" (18 : Nat) "SpongeDesk$Sponge" "even" "[I") ∈ lw_all := lw_g (lw_at lw_m1 46 rfl) rfl
theorem q58 : (Jvm.Cond.fieldLink "SpongeDesk$Sponge" (22 : Nat) "SpongeDesk$Sponge" "odd" "[I") ∈ lw_all := lw_g (lw_at lw_m1 47 rfl) rfl
theorem q59 : (Jvm.Cond.fieldLink "SpongeDesk$Sponge" (25 : Nat) "SpongeDesk$Sponge" "movedEven" "[I") ∈ lw_all := lw_g (lw_at lw_m1 48 rfl) rfl
theorem q60 : (Jvm.Cond.fieldLink "SpongeDesk$Sponge" (28 : Nat) "SpongeDesk$Sponge" "movedOdd" "[I") ∈ lw_all := lw_g (lw_at lw_m1 49 rfl) rfl
theorem q61 : (Jvm.Cond.fieldLink "SpongeDesk$Sponge" (31 : Nat) "SpongeDesk$Sponge" "sumEven" "[I") ∈ lw_all := lw_g (lw_at lw_m1 50 rfl) rfl
theorem q62 : (Jvm.Cond.fieldLink "SpongeDesk$Sponge" (34 : Nat) "SpongeDesk$Sponge" "sumOdd" "[I") ∈ lw_all := lw_g (lw_at lw_m1 51 rfl) rfl
theorem q63 : (Jvm.Cond.fieldLink "SpongeDesk$Sponge" (37 : Nat) "SpongeDesk$Sponge" "rate" "I") ∈ lw_all := lw_g (lw_at lw_m1 52 rfl) rfl
theorem q64 : (Jvm.Cond.fieldLink "SpongeDesk$Sponge" (41 : Nat) "SpongeDesk$Sponge" "at" "I") ∈ lw_all := lw_g (lw_at lw_m1 53 rfl) rfl
theorem q65 : (Jvm.Cond.laysFinal "SpongeDesk$Sponge" "SpongeDesk$Sponge" "rules" "LSpongeDesk$Rules;") ∈ lw_all := lw_g (lw_at lw_m1 54 rfl) rfl
theorem q66 : (Jvm.Cond.soleField "SpongeDesk$Sponge" "rules") ∈ lw_all := lw_g (lw_at lw_m1 55 rfl) rfl
theorem q67 : (Jvm.Cond.laysFinal "SpongeDesk$Sponge" "SpongeDesk$Sponge" "even" "[I") ∈ lw_all := lw_g (lw_at lw_m1 56 rfl) rfl
theorem q68 : (Jvm.Cond.soleField "SpongeDesk$Sponge" "even") ∈ lw_all := lw_g (lw_at lw_m1 57 rfl) rfl
theorem q69 : (Jvm.Cond.laysFinal "SpongeDesk$Sponge" "SpongeDesk$Sponge" "odd" "[I") ∈ lw_all := lw_g (lw_at lw_m1 58 rfl) rfl
theorem q70 : (Jvm.Cond.soleField "SpongeDesk$Sponge" "odd") ∈ lw_all := lw_g (lw_at lw_m1 59 rfl) rfl
theorem q71 : (Jvm.Cond.laysFinal "SpongeDesk$Sponge" "SpongeDesk$Sponge" "movedEven" "[I") ∈ lw_all := lw_g (lw_at lw_m1 60 rfl) rfl
theorem q72 : (Jvm.Cond.soleField "SpongeDesk$Sponge" "movedEven") ∈ lw_all := lw_g (lw_at lw_m1 61 rfl) rfl
theorem q73 : (Jvm.Cond.laysFinal "SpongeDesk$Sponge" "SpongeDesk$Sponge" "movedOdd" "[I") ∈ lw_all := lw_g (lw_at lw_m1 62 rfl) rfl
theorem q74 : (Jvm.Cond.soleField "SpongeDesk$Sponge" "movedOdd") ∈ lw_all := lw_g (lw_at lw_m1 63 rfl) rfl
theorem q75 : (Jvm.Cond.laysFinal "SpongeDesk$Sponge" "SpongeDesk$Sponge" "sumEven" "[I") ∈ lw_all := lw_g (lw_at lw_m1 64 rfl) rfl
theorem q76 : (Jvm.Cond.soleField "SpongeDesk$Sponge" "sumEven") ∈ lw_all := lw_g (lw_at lw_m1 65 rfl) rfl
theorem q77 : (Jvm.Cond.laysFinal "SpongeDesk$Sponge" "SpongeDesk$Sponge" "sumOdd" "[I") ∈ lw_all := lw_g (lw_at lw_m1 66 rfl) rfl
theorem q78 : (Jvm.Cond.soleField "SpongeDesk$Sponge" "sumOdd") ∈ lw_all := lw_g (lw_at lw_m1 67 rfl) rfl
theorem q79 : (Jvm.Cond.lays "SpongeDesk$Sponge" "SpongeDesk$Sponge" "rate" "I") ∈ lw_all := lw_g (lw_at lw_m1 68 rfl) rfl
theorem q80 : (Jvm.Cond.soleField "SpongeDesk$Sponge" "rate") ∈ lw_all := lw_g (lw_at lw_m1 69 rfl) rfl
theorem q81 : (Jvm.Cond.lays "SpongeDesk$Sponge" "SpongeDesk$Sponge" "at" "I") ∈ lw_all := lw_g (lw_at lw_m1 70 rfl) rfl
theorem q82 : (Jvm.Cond.soleField "SpongeDesk$Sponge" "at") ∈ lw_all := lw_g (lw_at lw_m1 71 rfl) rfl
theorem q83 : (Jvm.Cond.superclass "SpongeDesk$Sponge" "java/lang/Object") ∈ lw_all := lw_g (lw_at lw_m1 72 rfl) rfl
theorem q95 : (Jvm.Cond.instanceMethod ({ cls := "SpongeDesk$Sponge", name := "begin", desc := "(I)V" } : Jvm.MethodName)) ∈ lw_all := lw_g (lw_at lw_m1 84 rfl) rfl
theorem q96 : (Jvm.Cond.selects "SpongeDesk$Sponge" ({ cls := "SpongeDesk$Sponge", name := "begin", desc := "(I)V" } : Jvm.MethodName) ({ cls := "SpongeDesk$Sponge", name := "begin", desc := "(I)V" } : Jvm.MethodName)) ∈ lw_all := lw_g (lw_at lw_m1 85 rfl) rfl
theorem q97 : (Jvm.Cond.code ({ cls := "SpongeDesk$Sponge", name := "begin", desc := "(I)V" } : Jvm.MethodName) prog_3_method_2_code (3 : Nat) (Option.none : Option Jvm.ClassFile.FieldType)) ∈ lw_all := lw_g (lw_at lw_m1 86 rfl) rfl
theorem q148 : (Jvm.Cond.instanceMethod ({ cls := "SpongeDesk$Sponge", name := "take", desc := "(I)V" } : Jvm.MethodName)) ∈ lw_all := lw_g (lw_at lw_m1 137 rfl) rfl
theorem q149 : (Jvm.Cond.selects "SpongeDesk$Sponge" ({ cls := "SpongeDesk$Sponge", name := "take", desc := "(I)V" } : Jvm.MethodName) ({ cls := "SpongeDesk$Sponge", name := "take", desc := "(I)V" } : Jvm.MethodName)) ∈ lw_all := lw_g (lw_at lw_m1 138 rfl) rfl
theorem q150 : (Jvm.Cond.code ({ cls := "SpongeDesk$Sponge", name := "take", desc := "(I)V" } : Jvm.MethodName) prog_3_method_6_code (2 : Nat) (Option.none : Option Jvm.ClassFile.FieldType)) ∈ lw_all := lw_g (lw_at lw_m1 139 rfl) rfl
theorem q151 : (Jvm.Cond.methodLink "SpongeDesk$Sponge" (48 : Nat) ({ cls := "SpongeDesk$Sponge", name := "join", desc := "(II)V" } : Jvm.MethodName)) ∈ lw_all := lw_g (lw_at lw_m1 140 rfl) rfl
theorem q152 : (Jvm.Cond.privateMethod ({ cls := "SpongeDesk$Sponge", name := "join", desc := "(II)V" } : Jvm.MethodName)) ∈ lw_tbl := lw_at lw_m1 141 rfl
theorem q153 : (Jvm.Cond.instanceMethod ({ cls := "SpongeDesk$Sponge", name := "join", desc := "(II)V" } : Jvm.MethodName)) ∈ lw_all := lw_g (lw_at lw_m1 142 rfl) rfl
theorem q154 : (Jvm.Cond.code ({ cls := "SpongeDesk$Sponge", name := "join", desc := "(II)V" } : Jvm.MethodName) prog_3_method_5_code (5 : Nat) (Option.none : Option Jvm.ClassFile.FieldType)) ∈ lw_all := lw_g (lw_at lw_m1 143 rfl) rfl
theorem q155 : (Jvm.Cond.methodLink "SpongeDesk$Sponge" (44 : Nat) ({ cls := "SpongeDesk$Sponge", name := "half", desc := "(I)I" } : Jvm.MethodName)) ∈ lw_all := lw_g (lw_at lw_m1 144 rfl) rfl
theorem q156 : (Jvm.Cond.static ({ cls := "SpongeDesk$Sponge", name := "half", desc := "(I)I" } : Jvm.MethodName)) ∈ lw_all := lw_g (lw_at lw_m1 145 rfl) rfl
theorem q157 : (Jvm.Cond.code ({ cls := "SpongeDesk$Sponge", name := "half", desc := "(I)I" } : Jvm.MethodName) prog_3_method_3_code (1 : Nat) (Option.some Jvm.ClassFile.FieldType.int)) ∈ lw_all := lw_g (lw_at lw_m1 146 rfl) rfl
theorem q158 : (Jvm.Cond.methodLink "SpongeDesk$Sponge" (52 : Nat) ({ cls := "SpongeDesk$Sponge", name := "mix", desc := "()V" } : Jvm.MethodName)) ∈ lw_all := lw_g (lw_at lw_m1 147 rfl) rfl
theorem q159 : (Jvm.Cond.privateMethod ({ cls := "SpongeDesk$Sponge", name := "mix", desc := "()V" } : Jvm.MethodName)) ∈ lw_tbl := lw_at lw_m1 148 rfl
theorem q160 : (Jvm.Cond.instanceMethod ({ cls := "SpongeDesk$Sponge", name := "mix", desc := "()V" } : Jvm.MethodName)) ∈ lw_all := lw_g (lw_at lw_m1 149 rfl) rfl
theorem q161 : (Jvm.Cond.code ({ cls := "SpongeDesk$Sponge", name := "mix", desc := "()V" } : Jvm.MethodName) prog_3_method_9_code (2 : Nat) (Option.none : Option Jvm.ClassFile.FieldType)) ∈ lw_all := lw_g (lw_at lw_m1 150 rfl) rfl
theorem q162 : (Jvm.Cond.methodLink "SpongeDesk$Sponge" (58 : Nat) ({ cls := "SpongeDesk$Sponge", name := "columns", desc := "()V" } : Jvm.MethodName)) ∈ lw_all := lw_g (lw_at lw_m1 151 rfl) rfl
theorem q163 : (Jvm.Cond.privateMethod ({ cls := "SpongeDesk$Sponge", name := "columns", desc := "()V" } : Jvm.MethodName)) ∈ lw_tbl := lw_at lw_m1 152 rfl
theorem q164 : (Jvm.Cond.instanceMethod ({ cls := "SpongeDesk$Sponge", name := "columns", desc := "()V" } : Jvm.MethodName)) ∈ lw_all := lw_g (lw_at lw_m1 153 rfl) rfl
theorem q165 : (Jvm.Cond.code ({ cls := "SpongeDesk$Sponge", name := "columns", desc := "()V" } : Jvm.MethodName) prog_3_method_10_code (3 : Nat) (Option.none : Option Jvm.ClassFile.FieldType)) ∈ lw_all := lw_g (lw_at lw_m1 154 rfl) rfl
theorem q166 : (Jvm.Cond.methodLink "SpongeDesk$Sponge" (73 : Nat) ({ cls := "java/lang/Integer", name := "rotateLeft", desc := "(II)I" } : Jvm.MethodName)) ∈ lw_all := lw_g (lw_at lw_m1 155 rfl) rfl
theorem q169 : (Jvm.Cond.methodLink "SpongeDesk$Sponge" (61 : Nat) ({ cls := "SpongeDesk$Sponge", name := "move", desc := "()V" } : Jvm.MethodName)) ∈ lw_all := lw_g (lw_at lw_m1 158 rfl) rfl
theorem q170 : (Jvm.Cond.privateMethod ({ cls := "SpongeDesk$Sponge", name := "move", desc := "()V" } : Jvm.MethodName)) ∈ lw_tbl := lw_at lw_m1 159 rfl
theorem q171 : (Jvm.Cond.instanceMethod ({ cls := "SpongeDesk$Sponge", name := "move", desc := "()V" } : Jvm.MethodName)) ∈ lw_all := lw_g (lw_at lw_m1 160 rfl) rfl
theorem q172 : (Jvm.Cond.code ({ cls := "SpongeDesk$Sponge", name := "move", desc := "()V" } : Jvm.MethodName) prog_3_method_11_code (6 : Nat) (Option.none : Option Jvm.ClassFile.FieldType)) ∈ lw_all := lw_g (lw_at lw_m1 161 rfl) rfl
theorem q173 : (Jvm.Cond.methodLink "SpongeDesk$Sponge" (64 : Nat) ({ cls := "SpongeDesk$Sponge", name := "rows", desc := "()V" } : Jvm.MethodName)) ∈ lw_all := lw_g (lw_at lw_m1 162 rfl) rfl
theorem q174 : (Jvm.Cond.privateMethod ({ cls := "SpongeDesk$Sponge", name := "rows", desc := "()V" } : Jvm.MethodName)) ∈ lw_tbl := lw_at lw_m1 163 rfl
theorem q175 : (Jvm.Cond.instanceMethod ({ cls := "SpongeDesk$Sponge", name := "rows", desc := "()V" } : Jvm.MethodName)) ∈ lw_all := lw_g (lw_at lw_m1 164 rfl) rfl
theorem q176 : (Jvm.Cond.code ({ cls := "SpongeDesk$Sponge", name := "rows", desc := "()V" } : Jvm.MethodName) prog_3_method_12_code (5 : Nat) (Option.none : Option Jvm.ClassFile.FieldType)) ∈ lw_all := lw_g (lw_at lw_m1 165 rfl) rfl
theorem q184 : (Jvm.Cond.instanceMethod ({ cls := "SpongeDesk$Sponge", name := "end", desc := "(I)V" } : Jvm.MethodName)) ∈ lw_all := lw_g (lw_at lw_m1 173 rfl) rfl
theorem q185 : (Jvm.Cond.selects "SpongeDesk$Sponge" ({ cls := "SpongeDesk$Sponge", name := "end", desc := "(I)V" } : Jvm.MethodName) ({ cls := "SpongeDesk$Sponge", name := "end", desc := "(I)V" } : Jvm.MethodName)) ∈ lw_all := lw_g (lw_at lw_m1 174 rfl) rfl
theorem q186 : (Jvm.Cond.code ({ cls := "SpongeDesk$Sponge", name := "end", desc := "(I)V" } : Jvm.MethodName) prog_3_method_7_code (2 : Nat) (Option.none : Option Jvm.ClassFile.FieldType)) ∈ lw_all := lw_g (lw_at lw_m1 175 rfl) rfl
theorem q188 : (Jvm.Cond.instanceMethod ({ cls := "SpongeDesk$Sponge", name := "give", desc := "()I" } : Jvm.MethodName)) ∈ lw_all := lw_g (lw_at lw_m1 177 rfl) rfl
theorem q189 : (Jvm.Cond.selects "SpongeDesk$Sponge" ({ cls := "SpongeDesk$Sponge", name := "give", desc := "()I" } : Jvm.MethodName) ({ cls := "SpongeDesk$Sponge", name := "give", desc := "()I" } : Jvm.MethodName)) ∈ lw_all := lw_g (lw_at lw_m1 178 rfl) rfl
theorem q190 : (Jvm.Cond.code ({ cls := "SpongeDesk$Sponge", name := "give", desc := "()I" } : Jvm.MethodName) prog_3_method_8_code (3 : Nat) (Option.some Jvm.ClassFile.FieldType.int)) ∈ lw_all := lw_g (lw_at lw_m1 179 rfl) rfl
theorem q191 : (Jvm.Cond.methodLink "SpongeDesk$Sponge" (55 : Nat) ({ cls := "SpongeDesk$Sponge", name := "apart", desc := "(I)I" } : Jvm.MethodName)) ∈ lw_all := lw_g (lw_at lw_m1 180 rfl) rfl
theorem q192 : (Jvm.Cond.static ({ cls := "SpongeDesk$Sponge", name := "apart", desc := "(I)I" } : Jvm.MethodName)) ∈ lw_all := lw_g (lw_at lw_m1 181 rfl) rfl
theorem q193 : (Jvm.Cond.code ({ cls := "SpongeDesk$Sponge", name := "apart", desc := "(I)I" } : Jvm.MethodName) prog_3_method_4_code (1 : Nat) (Option.some Jvm.ClassFile.FieldType.int)) ∈ lw_all := lw_g (lw_at lw_m1 182 rfl) rfl
theorem in_X1 : ∀ w ∈ wsX10, w ∈ lw_all := lw_in wsX10 [65, 67, 69, 71, 73, 75, 77, 79, 81] (by decide +kernel) (by decide +kernel)
/-! SpongeDesk$Rules -/
def RX2 : String := "SpongeDesk$Rules"
def TX2 : u_T := fun k => match k with
  | 0 => ("SpongeDesk$Rules", "turn", "[I", true)
  | 1 => ("SpongeDesk$Rules", "to", "[I", true)
  | 2 => ("SpongeDesk$Rules", "evenOf", "[I", true)
  | _ => ("SpongeDesk$Rules", "oddOf", "[I", true)
def tyX2 : Nat → FieldType := fun k => match k with
  | 0 => .array .int
  | 1 => .array .int
  | 2 => .array .int
  | _ => .array .int
abbrev wsX20 : List Cond := u_ws RX2 TX2 4
theorem nmX2 : ∀ a, a < 4 → ∀ b, b < 4 → a ≠ b → (TX2 a).2.1 ≠ (TX2 b).2.1 := by decide +kernel
theorem tyX2_ok : ∀ k, k < 4 → parseFieldDescriptor (TX2 k).2.2.1 = some (tyX2 k) := by decide +kernel
abbrev cX2_init : ByteArray := prog_2_method_1_code
def yX2_init : MethodName := ⟨RX2, "<init>", "()V"⟩
theorem q14 : (Jvm.Cond.initialized "SpongeDesk$Rules") ∈ lw_all := lw_g (lw_at lw_m1 3 rfl) rfl
theorem q32 : (Jvm.Cond.instantiable "SpongeDesk$Rules" (4 : Nat)) ∈ lw_all := lw_g (lw_at lw_m1 21 rfl) rfl
theorem q34 : (Jvm.Cond.instanceMethod ({ cls := "SpongeDesk$Rules", name := "<init>", desc := "()V" } : Jvm.MethodName)) ∈ lw_all := lw_g (lw_at lw_m1 23 rfl) rfl
theorem q35 : (Jvm.Cond.code ({ cls := "SpongeDesk$Rules", name := "<init>", desc := "()V" } : Jvm.MethodName) prog_2_method_1_code (6 : Nat) (Option.none : Option Jvm.ClassFile.FieldType)) ∈ lw_all := lw_g (lw_at lw_m1 24 rfl) rfl
theorem q36 : (Jvm.Cond.methodLink "SpongeDesk$Rules" (3 : Nat) ({ cls := "java/lang/Object", name := "<init>", desc := "()V" } : Jvm.MethodName)) ∈ lw_all := lw_g (lw_at lw_m1 25 rfl) rfl
theorem q37 : (Jvm.Cond.fieldLink "SpongeDesk$Rules" (9 : Nat) "SpongeDesk$Rules" "turn" "[I") ∈ lw_all := lw_g (lw_at lw_m1 26 rfl) rfl
theorem q39 : (Jvm.Cond.fieldLink "SpongeDesk$Rules" (15 : Nat) "SpongeDesk$Rules" "to" "[I") ∈ lw_all := lw_g (lw_at lw_m1 28 rfl) rfl
theorem q41 : (Jvm.Cond.fieldLink "SpongeDesk$Rules" (18 : Nat) "SpongeDesk$Rules" "evenOf" "[I") ∈ lw_all := lw_g (lw_at lw_m1 30 rfl) rfl
theorem q43 : (Jvm.Cond.fieldLink "SpongeDesk$Rules" (21 : Nat) "SpongeDesk$Rules" "oddOf" "[I") ∈ lw_all := lw_g (lw_at lw_m1 32 rfl) rfl
theorem q45 : (Jvm.Cond.laysFinal "SpongeDesk$Rules" "SpongeDesk$Rules" "turn" "[I") ∈ lw_all := lw_g (lw_at lw_m1 34 rfl) rfl
theorem q46 : (Jvm.Cond.soleField "SpongeDesk$Rules" "turn") ∈ lw_all := lw_g (lw_at lw_m1 35 rfl) rfl
theorem q47 : (Jvm.Cond.laysFinal "SpongeDesk$Rules" "SpongeDesk$Rules" "to" "[I") ∈ lw_all := lw_g (lw_at lw_m1 36 rfl) rfl
theorem q48 : (Jvm.Cond.soleField "SpongeDesk$Rules" "to") ∈ lw_all := lw_g (lw_at lw_m1 37 rfl) rfl
theorem q49 : (Jvm.Cond.laysFinal "SpongeDesk$Rules" "SpongeDesk$Rules" "evenOf" "[I") ∈ lw_all := lw_g (lw_at lw_m1 38 rfl) rfl
theorem q50 : (Jvm.Cond.soleField "SpongeDesk$Rules" "evenOf") ∈ lw_all := lw_g (lw_at lw_m1 39 rfl) rfl
theorem q51 : (Jvm.Cond.laysFinal "SpongeDesk$Rules" "SpongeDesk$Rules" "oddOf" "[I") ∈ lw_all := lw_g (lw_at lw_m1 40 rfl) rfl
theorem q52 : (Jvm.Cond.soleField "SpongeDesk$Rules" "oddOf") ∈ lw_all := lw_g (lw_at lw_m1 41 rfl) rfl
theorem q53 : (Jvm.Cond.superclass "SpongeDesk$Rules" "java/lang/Object") ∈ lw_all := lw_g (lw_at lw_m1 42 rfl) rfl
theorem in_X2 : ∀ w ∈ wsX20, w ∈ lw_all := lw_in wsX20 [45, 47, 49, 51] (by decide +kernel) (by decide +kernel)
/-! SpongeDeskModel -/
def RX3 : String := "SpongeDeskModel"
def TX3 : u_T := fun k => match k with
  | 0 => ("SpongeDeskModel", "text", "[B", true)
  | 1 => ("SpongeDeskModel", "size", "I", false)
  | 2 => ("SpongeDeskModel", "fedText", "[B", true)
  | 3 => ("SpongeDeskModel", "fed", "I", false)
  | 4 => ("SpongeDeskModel", "kind", "I", false)
  | 5 => ("SpongeDeskModel", "shown", "I", false)
  | 6 => ("SpongeDeskModel", "open", "Z", false)
  | 7 => ("SpongeDeskModel", "word", "[J", true)
  | 8 => ("SpongeDeskModel", "t", "[J", true)
  | 9 => ("SpongeDeskModel", "c", "[J", true)
  | 10 => ("SpongeDeskModel", "answer", "[I", true)
  | 11 => ("SpongeDeskModel", "length", "I", false)
  | _ => ("SpongeDeskModel", "all", "[B", true)
def tyX3 : Nat → FieldType := fun k => match k with
  | 0 => .array .byte
  | 1 => .int
  | 2 => .array .byte
  | 3 => .int
  | 4 => .int
  | 5 => .int
  | 6 => .boolean
  | 7 => .array .long
  | 8 => .array .long
  | 9 => .array .long
  | 10 => .array .int
  | 11 => .int
  | _ => .array .byte
abbrev wsX30 : List Cond := u_ws RX3 TX3 13
set_option maxRecDepth 100000 in
theorem nmX3 : ∀ a, a < 13 → ∀ b, b < 13 → a ≠ b → (TX3 a).2.1 ≠ (TX3 b).2.1 := by decide +kernel
set_option maxRecDepth 100000 in
theorem tyX3_ok : ∀ k, k < 13 → parseFieldDescriptor (TX3 k).2.2.1 = some (tyX3 k) := by decide +kernel
abbrev cX3_init : ByteArray := prog_5_method_1_code
def yX3_init : MethodName := ⟨RX3, "<init>", "()V"⟩
abbrev cX3_put : ByteArray := prog_5_method_2_code
def yX3_put : MethodName := ⟨RX3, "put", "(IIII)Z"⟩
abbrev cX3_trim : ByteArray := prog_5_method_3_code
def yX3_trim : MethodName := ⟨RX3, "trim", "(I)V"⟩
abbrev cX3_first : ByteArray := prog_5_method_5_code
def yX3_first : MethodName := ⟨RX3, "first", "(I)I"⟩
abbrev cX3_size : ByteArray := prog_5_method_4_code
def yX3_size : MethodName := ⟨RX3, "size", "()I"⟩
abbrev cX3_begin : ByteArray := prog_5_method_11_code
def yX3_begin : MethodName := ⟨RX3, "begin", "(I)V"⟩
abbrev cX3_feed : ByteArray := prog_5_method_12_code
def yX3_feed : MethodName := ⟨RX3, "feed", "(II)Z"⟩
abbrev cX3_many : ByteArray := prog_5_method_6_code
def yX3_many : MethodName := ⟨RX3, "many", "(II)I"⟩
abbrev cX3_close : ByteArray := prog_5_method_14_code
def yX3_close : MethodName := ⟨RX3, "close", "(I)I"⟩
abbrev cX3_show : ByteArray := prog_5_method_13_code
def yX3_show : MethodName := ⟨RX3, "show", "(II)V"⟩
abbrev cX3_rate : ByteArray := prog_5_method_9_code
def yX3_rate : MethodName := ⟨RX3, "rate", "()I"⟩
abbrev cX3_mix : ByteArray := prog_5_method_10_code
def yX3_mix : MethodName := ⟨RX3, "mix", "()V"⟩
abbrev cX3_at : ByteArray := prog_5_method_7_code
def yX3_at : MethodName := ⟨RX3, "at", "(II)I"⟩
abbrev cX3_turn : ByteArray := prog_5_method_8_code
def yX3_turn : MethodName := ⟨RX3, "turn", "(JI)J"⟩
abbrev cX3_answer : ByteArray := prog_5_method_15_code
def yX3_answer : MethodName := ⟨RX3, "answer", "(I)I"⟩
theorem q15 : (Jvm.Cond.initialized "SpongeDeskModel") ∈ lw_all := lw_g (lw_at lw_m1 4 rfl) rfl
theorem q199 : (Jvm.Cond.instantiable "SpongeDeskModel" (13 : Nat)) ∈ lw_all := lw_g (lw_at lw_m1 188 rfl) rfl
theorem q201 : (Jvm.Cond.instanceMethod ({ cls := "SpongeDeskModel", name := "<init>", desc := "()V" } : Jvm.MethodName)) ∈ lw_all := lw_g (lw_at lw_m1 190 rfl) rfl
theorem q202 : (Jvm.Cond.code ({ cls := "SpongeDeskModel", name := "<init>", desc := "()V" } : Jvm.MethodName) prog_5_method_1_code (1 : Nat) (Option.none : Option Jvm.ClassFile.FieldType)) ∈ lw_all := lw_g (lw_at lw_m1 191 rfl) rfl
theorem q203 : (Jvm.Cond.methodLink "SpongeDeskModel" (1 : Nat) ({ cls := "java/lang/Object", name := "<init>", desc := "()V" } : Jvm.MethodName)) ∈ lw_all := lw_g (lw_at lw_m1 192 rfl) rfl
theorem q204 : (Jvm.Cond.fieldLink "SpongeDeskModel" (7 : Nat) "SpongeDeskModel" "text" "[B") ∈ lw_all := lw_g (lw_at lw_m1 193 rfl) rfl
theorem q205 : (Jvm.Cond.fieldLink "SpongeDeskModel" (37 : Nat) "SpongeDeskModel" "size" "I") ∈ lw_all := lw_g (lw_at lw_m1 194 rfl) rfl
theorem q206 : (Jvm.Cond.fieldLink "SpongeDeskModel" (13 : Nat) "SpongeDeskModel" "fedText" "[B") ∈ lw_all := lw_g (lw_at lw_m1 195 rfl) rfl
theorem q207 : (Jvm.Cond.fieldLink "SpongeDeskModel" (59 : Nat) "SpongeDeskModel" "fed" "I") ∈ lw_all := lw_g (lw_at lw_m1 196 rfl) rfl
theorem q208 : (Jvm.Cond.fieldLink "SpongeDeskModel" (46 : Nat) "SpongeDeskModel" "kind" "I") ∈ lw_all := lw_g (lw_at lw_m1 197 rfl) rfl
theorem q209 : (Jvm.Cond.fieldLink "SpongeDeskModel" (62 : Nat) "SpongeDeskModel" "shown" "I") ∈ lw_all := lw_g (lw_at lw_m1 198 rfl) rfl
theorem q210 : (Jvm.Cond.fieldLink "SpongeDeskModel" (16 : Nat) "SpongeDeskModel" "open" "Z") ∈ lw_all := lw_g (lw_at lw_m1 199 rfl) rfl
theorem q211 : (Jvm.Cond.fieldLink "SpongeDeskModel" (20 : Nat) "SpongeDeskModel" "word" "[J") ∈ lw_all := lw_g (lw_at lw_m1 200 rfl) rfl
theorem q212 : (Jvm.Cond.fieldLink "SpongeDeskModel" (24 : Nat) "SpongeDeskModel" "t" "[J") ∈ lw_all := lw_g (lw_at lw_m1 201 rfl) rfl
theorem q213 : (Jvm.Cond.fieldLink "SpongeDeskModel" (27 : Nat) "SpongeDeskModel" "c" "[J") ∈ lw_all := lw_g (lw_at lw_m1 202 rfl) rfl
theorem q214 : (Jvm.Cond.fieldLink "SpongeDeskModel" (30 : Nat) "SpongeDeskModel" "answer" "[I") ∈ lw_all := lw_g (lw_at lw_m1 203 rfl) rfl
theorem q215 : (Jvm.Cond.fieldLink "SpongeDeskModel" (65 : Nat) "SpongeDeskModel" "length" "I") ∈ lw_all := lw_g (lw_at lw_m1 204 rfl) rfl
theorem q216 : (Jvm.Cond.fieldLink "SpongeDeskModel" (34 : Nat) "SpongeDeskModel" "all" "[B") ∈ lw_all := lw_g (lw_at lw_m1 205 rfl) rfl
theorem q217 : (Jvm.Cond.laysFinal "SpongeDeskModel" "SpongeDeskModel" "text" "[B") ∈ lw_all := lw_g (lw_at lw_m1 206 rfl) rfl
theorem q218 : (Jvm.Cond.soleField "SpongeDeskModel" "text") ∈ lw_all := lw_g (lw_at lw_m1 207 rfl) rfl
theorem q219 : (Jvm.Cond.lays "SpongeDeskModel" "SpongeDeskModel" "size" "I") ∈ lw_all := lw_g (lw_at lw_m1 208 rfl) rfl
theorem q220 : (Jvm.Cond.soleField "SpongeDeskModel" "size") ∈ lw_all := lw_g (lw_at lw_m1 209 rfl) rfl
theorem q221 : (Jvm.Cond.laysFinal "SpongeDeskModel" "SpongeDeskModel" "fedText" "[B") ∈ lw_all := lw_g (lw_at lw_m1 210 rfl) rfl
theorem q222 : (Jvm.Cond.soleField "SpongeDeskModel" "fedText") ∈ lw_all := lw_g (lw_at lw_m1 211 rfl) rfl
theorem q223 : (Jvm.Cond.lays "SpongeDeskModel" "SpongeDeskModel" "fed" "I") ∈ lw_all := lw_g (lw_at lw_m1 212 rfl) rfl
theorem q224 : (Jvm.Cond.soleField "SpongeDeskModel" "fed") ∈ lw_all := lw_g (lw_at lw_m1 213 rfl) rfl
theorem q225 : (Jvm.Cond.lays "SpongeDeskModel" "SpongeDeskModel" "kind" "I") ∈ lw_all := lw_g (lw_at lw_m1 214 rfl) rfl
theorem q226 : (Jvm.Cond.soleField "SpongeDeskModel" "kind") ∈ lw_all := lw_g (lw_at lw_m1 215 rfl) rfl
theorem q227 : (Jvm.Cond.lays "SpongeDeskModel" "SpongeDeskModel" "shown" "I") ∈ lw_all := lw_g (lw_at lw_m1 216 rfl) rfl
theorem q228 : (Jvm.Cond.soleField "SpongeDeskModel" "shown") ∈ lw_all := lw_g (lw_at lw_m1 217 rfl) rfl
theorem q229 : (Jvm.Cond.lays "SpongeDeskModel" "SpongeDeskModel" "open" "Z") ∈ lw_all := lw_g (lw_at lw_m1 218 rfl) rfl
theorem q230 : (Jvm.Cond.soleField "SpongeDeskModel" "open") ∈ lw_all := lw_g (lw_at lw_m1 219 rfl) rfl
theorem q231 : (Jvm.Cond.laysFinal "SpongeDeskModel" "SpongeDeskModel" "word" "[J") ∈ lw_all := lw_g (lw_at lw_m1 220 rfl) rfl
theorem q232 : (Jvm.Cond.soleField "SpongeDeskModel" "word") ∈ lw_all := lw_g (lw_at lw_m1 221 rfl) rfl
theorem q233 : (Jvm.Cond.laysFinal "SpongeDeskModel" "SpongeDeskModel" "t" "[J") ∈ lw_all := lw_g (lw_at lw_m1 222 rfl) rfl
theorem q234 : (Jvm.Cond.soleField "SpongeDeskModel" "t") ∈ lw_all := lw_g (lw_at lw_m1 223 rfl) rfl
theorem q235 : (Jvm.Cond.laysFinal "SpongeDeskModel" "SpongeDeskModel" "c" "[J") ∈ lw_all := lw_g (lw_at lw_m1 224 rfl) rfl
theorem q236 : (Jvm.Cond.soleField "SpongeDeskModel" "c") ∈ lw_all := lw_g (lw_at lw_m1 225 rfl) rfl
theorem q237 : (Jvm.Cond.laysFinal "SpongeDeskModel" "SpongeDeskModel" "answer" "[I") ∈ lw_all := lw_g (lw_at lw_m1 226 rfl) rfl
theorem q238 : (Jvm.Cond.soleField "SpongeDeskModel" "answer") ∈ lw_all := lw_g (lw_at lw_m1 227 rfl) rfl
theorem q239 : (Jvm.Cond.lays "SpongeDeskModel" "SpongeDeskModel" "length" "I") ∈ lw_all := lw_g (lw_at lw_m1 228 rfl) rfl
theorem q240 : (Jvm.Cond.soleField "SpongeDeskModel" "length") ∈ lw_all := lw_g (lw_at lw_m1 229 rfl) rfl
theorem q241 : (Jvm.Cond.laysFinal "SpongeDeskModel" "SpongeDeskModel" "all" "[B") ∈ lw_all := lw_g (lw_at lw_m1 230 rfl) rfl
theorem q242 : (Jvm.Cond.soleField "SpongeDeskModel" "all") ∈ lw_all := lw_g (lw_at lw_m1 231 rfl) rfl
theorem q243 : (Jvm.Cond.superclass "SpongeDeskModel" "java/lang/Object") ∈ lw_all := lw_g (lw_at lw_m1 232 rfl) rfl
theorem q246 : (Jvm.Cond.instanceMethod ({ cls := "SpongeDeskModel", name := "put", desc := "(IIII)Z" } : Jvm.MethodName)) ∈ lw_all := lw_g (lw_at lw_m1 235 rfl) rfl
theorem q247 : (Jvm.Cond.selects "SpongeDeskModel" ({ cls := "SpongeDeskModel", name := "put", desc := "(IIII)Z" } : Jvm.MethodName) ({ cls := "SpongeDeskModel", name := "put", desc := "(IIII)Z" } : Jvm.MethodName)) ∈ lw_all := lw_g (lw_at lw_m1 236 rfl) rfl
theorem q248 : (Jvm.Cond.code ({ cls := "SpongeDeskModel", name := "put", desc := "(IIII)Z" } : Jvm.MethodName) prog_5_method_2_code (7 : Nat) (Option.some Jvm.ClassFile.FieldType.boolean)) ∈ lw_all := lw_g (lw_at lw_m1 237 rfl) rfl
theorem q250 : (Jvm.Cond.instanceMethod ({ cls := "SpongeDeskModel", name := "trim", desc := "(I)V" } : Jvm.MethodName)) ∈ lw_all := lw_g (lw_at lw_m1 239 rfl) rfl
theorem q251 : (Jvm.Cond.selects "SpongeDeskModel" ({ cls := "SpongeDeskModel", name := "trim", desc := "(I)V" } : Jvm.MethodName) ({ cls := "SpongeDeskModel", name := "trim", desc := "(I)V" } : Jvm.MethodName)) ∈ lw_all := lw_g (lw_at lw_m2 0 rfl) rfl
theorem q252 : (Jvm.Cond.code ({ cls := "SpongeDeskModel", name := "trim", desc := "(I)V" } : Jvm.MethodName) prog_5_method_3_code (2 : Nat) (Option.none : Option Jvm.ClassFile.FieldType)) ∈ lw_all := lw_g (lw_at lw_m2 1 rfl) rfl
theorem q253 : (Jvm.Cond.methodLink "SpongeDeskModel" (41 : Nat) ({ cls := "SpongeDeskModel", name := "first", desc := "(I)I" } : Jvm.MethodName)) ∈ lw_all := lw_g (lw_at lw_m2 2 rfl) rfl
theorem q254 : (Jvm.Cond.privateMethod ({ cls := "SpongeDeskModel", name := "first", desc := "(I)I" } : Jvm.MethodName)) ∈ lw_tbl := lw_at lw_m2 3 rfl
theorem q255 : (Jvm.Cond.instanceMethod ({ cls := "SpongeDeskModel", name := "first", desc := "(I)I" } : Jvm.MethodName)) ∈ lw_all := lw_g (lw_at lw_m2 4 rfl) rfl
theorem q256 : (Jvm.Cond.code ({ cls := "SpongeDeskModel", name := "first", desc := "(I)I" } : Jvm.MethodName) prog_5_method_5_code (2 : Nat) (Option.some Jvm.ClassFile.FieldType.int)) ∈ lw_all := lw_g (lw_at lw_m2 5 rfl) rfl
theorem q257 : (Jvm.Cond.constant "SpongeDeskModel" (45 : Nat) (2147483647 : Int32)) ∈ lw_all := lw_g (lw_at lw_m2 6 rfl) rfl
theorem q259 : (Jvm.Cond.instanceMethod ({ cls := "SpongeDeskModel", name := "size", desc := "()I" } : Jvm.MethodName)) ∈ lw_all := lw_g (lw_at lw_m2 8 rfl) rfl
theorem q260 : (Jvm.Cond.selects "SpongeDeskModel" ({ cls := "SpongeDeskModel", name := "size", desc := "()I" } : Jvm.MethodName) ({ cls := "SpongeDeskModel", name := "size", desc := "()I" } : Jvm.MethodName)) ∈ lw_all := lw_g (lw_at lw_m2 9 rfl) rfl
theorem q261 : (Jvm.Cond.code ({ cls := "SpongeDeskModel", name := "size", desc := "()I" } : Jvm.MethodName) prog_5_method_4_code (1 : Nat) (Option.some Jvm.ClassFile.FieldType.int)) ∈ lw_all := lw_g (lw_at lw_m2 10 rfl) rfl
theorem q263 : (Jvm.Cond.instanceMethod ({ cls := "SpongeDeskModel", name := "begin", desc := "(I)V" } : Jvm.MethodName)) ∈ lw_all := lw_g (lw_at lw_m2 12 rfl) rfl
theorem q264 : (Jvm.Cond.selects "SpongeDeskModel" ({ cls := "SpongeDeskModel", name := "begin", desc := "(I)V" } : Jvm.MethodName) ({ cls := "SpongeDeskModel", name := "begin", desc := "(I)V" } : Jvm.MethodName)) ∈ lw_all := lw_g (lw_at lw_m2 13 rfl) rfl
theorem q265 : (Jvm.Cond.code ({ cls := "SpongeDeskModel", name := "begin", desc := "(I)V" } : Jvm.MethodName) prog_5_method_11_code (2 : Nat) (Option.none : Option Jvm.ClassFile.FieldType)) ∈ lw_all := lw_g (lw_at lw_m2 14 rfl) rfl
theorem q267 : (Jvm.Cond.instanceMethod ({ cls := "SpongeDeskModel", name := "feed", desc := "(II)Z" } : Jvm.MethodName)) ∈ lw_all := lw_g (lw_at lw_m2 16 rfl) rfl
theorem q268 : (Jvm.Cond.selects "SpongeDeskModel" ({ cls := "SpongeDeskModel", name := "feed", desc := "(II)Z" } : Jvm.MethodName) ({ cls := "SpongeDeskModel", name := "feed", desc := "(II)Z" } : Jvm.MethodName)) ∈ lw_all := lw_g (lw_at lw_m2 17 rfl) rfl
theorem q269 : (Jvm.Cond.code ({ cls := "SpongeDeskModel", name := "feed", desc := "(II)Z" } : Jvm.MethodName) prog_5_method_12_code (6 : Nat) (Option.some Jvm.ClassFile.FieldType.boolean)) ∈ lw_all := lw_g (lw_at lw_m2 18 rfl) rfl
theorem q270 : (Jvm.Cond.methodLink "SpongeDeskModel" (68 : Nat) ({ cls := "SpongeDeskModel", name := "many", desc := "(II)I" } : Jvm.MethodName)) ∈ lw_all := lw_g (lw_at lw_m2 19 rfl) rfl
theorem q271 : (Jvm.Cond.privateMethod ({ cls := "SpongeDeskModel", name := "many", desc := "(II)I" } : Jvm.MethodName)) ∈ lw_tbl := lw_at lw_m2 20 rfl
theorem q272 : (Jvm.Cond.instanceMethod ({ cls := "SpongeDeskModel", name := "many", desc := "(II)I" } : Jvm.MethodName)) ∈ lw_all := lw_g (lw_at lw_m2 21 rfl) rfl
theorem q273 : (Jvm.Cond.code ({ cls := "SpongeDeskModel", name := "many", desc := "(II)I" } : Jvm.MethodName) prog_5_method_6_code (3 : Nat) (Option.some Jvm.ClassFile.FieldType.int)) ∈ lw_all := lw_g (lw_at lw_m2 22 rfl) rfl
theorem q275 : (Jvm.Cond.instanceMethod ({ cls := "SpongeDeskModel", name := "close", desc := "(I)I" } : Jvm.MethodName)) ∈ lw_all := lw_g (lw_at lw_m2 24 rfl) rfl
theorem q276 : (Jvm.Cond.selects "SpongeDeskModel" ({ cls := "SpongeDeskModel", name := "close", desc := "(I)I" } : Jvm.MethodName) ({ cls := "SpongeDeskModel", name := "close", desc := "(I)I" } : Jvm.MethodName)) ∈ lw_all := lw_g (lw_at lw_m2 25 rfl) rfl
theorem q277 : (Jvm.Cond.code ({ cls := "SpongeDeskModel", name := "close", desc := "(I)I" } : Jvm.MethodName) prog_5_method_14_code (3 : Nat) (Option.some Jvm.ClassFile.FieldType.int)) ∈ lw_all := lw_g (lw_at lw_m2 26 rfl) rfl
theorem q278 : (Jvm.Cond.methodLink "SpongeDeskModel" (78 : Nat) ({ cls := "SpongeDeskModel", name := "show", desc := "(II)V" } : Jvm.MethodName)) ∈ lw_all := lw_g (lw_at lw_m2 27 rfl) rfl
theorem q279 : (Jvm.Cond.privateMethod ({ cls := "SpongeDeskModel", name := "show", desc := "(II)V" } : Jvm.MethodName)) ∈ lw_tbl := lw_at lw_m2 28 rfl
theorem q280 : (Jvm.Cond.instanceMethod ({ cls := "SpongeDeskModel", name := "show", desc := "(II)V" } : Jvm.MethodName)) ∈ lw_all := lw_g (lw_at lw_m2 29 rfl) rfl
theorem q281 : (Jvm.Cond.code ({ cls := "SpongeDeskModel", name := "show", desc := "(II)V" } : Jvm.MethodName) prog_5_method_13_code (7 : Nat) (Option.none : Option Jvm.ClassFile.FieldType)) ∈ lw_all := lw_g (lw_at lw_m2 30 rfl) rfl
theorem q282 : (Jvm.Cond.methodLink "SpongeDeskModel" (71 : Nat) ({ cls := "SpongeDeskModel", name := "rate", desc := "()I" } : Jvm.MethodName)) ∈ lw_all := lw_g (lw_at lw_m2 31 rfl) rfl
theorem q283 : (Jvm.Cond.privateMethod ({ cls := "SpongeDeskModel", name := "rate", desc := "()I" } : Jvm.MethodName)) ∈ lw_tbl := lw_at lw_m2 32 rfl
theorem q284 : (Jvm.Cond.instanceMethod ({ cls := "SpongeDeskModel", name := "rate", desc := "()I" } : Jvm.MethodName)) ∈ lw_all := lw_g (lw_at lw_m2 33 rfl) rfl
theorem q285 : (Jvm.Cond.code ({ cls := "SpongeDeskModel", name := "rate", desc := "()I" } : Jvm.MethodName) prog_5_method_9_code (1 : Nat) (Option.some Jvm.ClassFile.FieldType.int)) ∈ lw_all := lw_g (lw_at lw_m2 34 rfl) rfl
theorem q286 : (Jvm.Cond.methodLink "SpongeDeskModel" (75 : Nat) ({ cls := "SpongeDeskModel", name := "mix", desc := "()V" } : Jvm.MethodName)) ∈ lw_all := lw_g (lw_at lw_m2 35 rfl) rfl
theorem q287 : (Jvm.Cond.privateMethod ({ cls := "SpongeDeskModel", name := "mix", desc := "()V" } : Jvm.MethodName)) ∈ lw_tbl := lw_at lw_m2 36 rfl
theorem q288 : (Jvm.Cond.instanceMethod ({ cls := "SpongeDeskModel", name := "mix", desc := "()V" } : Jvm.MethodName)) ∈ lw_all := lw_g (lw_at lw_m2 37 rfl) rfl
theorem q289 : (Jvm.Cond.code ({ cls := "SpongeDeskModel", name := "mix", desc := "()V" } : Jvm.MethodName) prog_5_method_10_code (7 : Nat) (Option.none : Option Jvm.ClassFile.FieldType)) ∈ lw_all := lw_g (lw_at lw_m2 38 rfl) rfl
theorem q290 : (Jvm.Cond.methodLink "SpongeDeskModel" (49 : Nat) ({ cls := "SpongeDeskModel", name := "at", desc := "(II)I" } : Jvm.MethodName)) ∈ lw_all := lw_g (lw_at lw_m2 39 rfl) rfl
theorem q291 : (Jvm.Cond.static ({ cls := "SpongeDeskModel", name := "at", desc := "(II)I" } : Jvm.MethodName)) ∈ lw_all := lw_g (lw_at lw_m2 40 rfl) rfl
theorem q292 : (Jvm.Cond.code ({ cls := "SpongeDeskModel", name := "at", desc := "(II)I" } : Jvm.MethodName) prog_5_method_7_code (2 : Nat) (Option.some Jvm.ClassFile.FieldType.int)) ∈ lw_all := lw_g (lw_at lw_m2 41 rfl) rfl
theorem q293 : (Jvm.Cond.methodLink "SpongeDeskModel" (53 : Nat) ({ cls := "SpongeDeskModel", name := "turn", desc := "(JI)J" } : Jvm.MethodName)) ∈ lw_all := lw_g (lw_at lw_m2 42 rfl) rfl
theorem q294 : (Jvm.Cond.static ({ cls := "SpongeDeskModel", name := "turn", desc := "(JI)J" } : Jvm.MethodName)) ∈ lw_all := lw_g (lw_at lw_m2 43 rfl) rfl
theorem q295 : (Jvm.Cond.code ({ cls := "SpongeDeskModel", name := "turn", desc := "(JI)J" } : Jvm.MethodName) prog_5_method_8_code (3 : Nat) (Option.some Jvm.ClassFile.FieldType.long)) ∈ lw_all := lw_g (lw_at lw_m2 44 rfl) rfl
theorem q296 : (Jvm.Cond.constantLong "SpongeDeskModel" (57 : Nat) (-1 : Int64)) ∈ lw_all := lw_g (lw_at lw_m2 45 rfl) rfl
theorem q298 : (Jvm.Cond.instanceMethod ({ cls := "SpongeDeskModel", name := "answer", desc := "(I)I" } : Jvm.MethodName)) ∈ lw_all := lw_g (lw_at lw_m2 47 rfl) rfl
theorem q299 : (Jvm.Cond.selects "SpongeDeskModel" ({ cls := "SpongeDeskModel", name := "answer", desc := "(I)I" } : Jvm.MethodName) ({ cls := "SpongeDeskModel", name := "answer", desc := "(I)I" } : Jvm.MethodName)) ∈ lw_all := lw_g (lw_at lw_m2 48 rfl) rfl
theorem q300 : (Jvm.Cond.code ({ cls := "SpongeDeskModel", name := "answer", desc := "(I)I" } : Jvm.MethodName) prog_5_method_15_code (2 : Nat) (Option.some Jvm.ClassFile.FieldType.int)) ∈ lw_all := lw_g (lw_at lw_m2 49 rfl) rfl
theorem in_X3 : ∀ w ∈ wsX30, w ∈ lw_all := lw_in wsX30 [217, 219, 221, 223, 225, 227, 229, 231, 233, 235, 237, 239, 241] (by decide +kernel) (by decide +kernel)
/-! java/lang/Integer -/
def RJ0 : String := "java/lang/Integer"
abbrev cJ0_rotateLeft : ByteArray := prog_6_method_50_code
def yJ0_rotateLeft : MethodName := ⟨RJ0, "rotateLeft", "(II)I"⟩
theorem q16 : (Jvm.Cond.initialized "java/lang/Integer") ∈ lw_all := lw_g (lw_at lw_m1 5 rfl) rfl
theorem q167 : (Jvm.Cond.static ({ cls := "java/lang/Integer", name := "rotateLeft", desc := "(II)I" } : Jvm.MethodName)) ∈ lw_all := lw_g (lw_at lw_m1 156 rfl) rfl
theorem q168 : (Jvm.Cond.code ({ cls := "java/lang/Integer", name := "rotateLeft", desc := "(II)I" } : Jvm.MethodName) prog_6_method_50_code (2 : Nat) (Option.some Jvm.ClassFile.FieldType.int)) ∈ lw_all := lw_g (lw_at lw_m1 157 rfl) rfl
/-! java/lang/Object -/
def RJ1 : String := "java/lang/Object"
abbrev cJ1_init : ByteArray := object_method_1_code
def yJ1_init : MethodName := ⟨RJ1, "<init>", "()V"⟩
theorem q23 : (Jvm.Cond.instanceMethod ({ cls := "java/lang/Object", name := "<init>", desc := "()V" } : Jvm.MethodName)) ∈ lw_all := lw_g (lw_at lw_m1 12 rfl) rfl
theorem q24 : (Jvm.Cond.code ({ cls := "java/lang/Object", name := "<init>", desc := "()V" } : Jvm.MethodName) object_method_1_code (1 : Nat) (Option.none : Option Jvm.ClassFile.FieldType)) ∈ lw_all := lw_g (lw_at lw_m1 13 rfl) rfl
/-! the law's own entry -/
abbrev cL_law : ByteArray := code
theorem q11 : (Jvm.Cond.initialized "SpongeDeskLaw") ∈ lw_all := lw_g (lw_at lw_m1 0 rfl) rfl
theorem q17 : (Jvm.Cond.classLink "SpongeDeskLaw" (7 : Nat) "SpongeDesk") ∈ lw_all := lw_g (lw_at lw_m1 6 rfl) rfl
theorem q19 : (Jvm.Cond.methodLink "SpongeDeskLaw" (9 : Nat) ({ cls := "SpongeDesk", name := "<init>", desc := "()V" } : Jvm.MethodName)) ∈ lw_all := lw_g (lw_at lw_m1 8 rfl) rfl
theorem q126 : (Jvm.Cond.methodLink "SpongeDeskLaw" (13 : Nat) ({ cls := "SpongeDesk", name := "put", desc := "(IIII)Z" } : Jvm.MethodName)) ∈ lw_all := lw_g (lw_at lw_m1 115 rfl) rfl
theorem q134 : (Jvm.Cond.methodLink "SpongeDeskLaw" (18 : Nat) ({ cls := "SpongeDesk", name := "trim", desc := "(I)V" } : Jvm.MethodName)) ∈ lw_all := lw_g (lw_at lw_m1 123 rfl) rfl
theorem q138 : (Jvm.Cond.methodLink "SpongeDeskLaw" (23 : Nat) ({ cls := "SpongeDesk", name := "size", desc := "()I" } : Jvm.MethodName)) ∈ lw_all := lw_g (lw_at lw_m1 127 rfl) rfl
theorem q142 : (Jvm.Cond.methodLink "SpongeDeskLaw" (28 : Nat) ({ cls := "SpongeDesk", name := "begin", desc := "(I)V" } : Jvm.MethodName)) ∈ lw_all := lw_g (lw_at lw_m1 131 rfl) rfl
theorem q143 : (Jvm.Cond.methodLink "SpongeDeskLaw" (32 : Nat) ({ cls := "SpongeDesk", name := "feed", desc := "(II)Z" } : Jvm.MethodName)) ∈ lw_all := lw_g (lw_at lw_m1 132 rfl) rfl
theorem q177 : (Jvm.Cond.methodLink "SpongeDeskLaw" (37 : Nat) ({ cls := "SpongeDesk", name := "close", desc := "(I)I" } : Jvm.MethodName)) ∈ lw_all := lw_g (lw_at lw_m1 166 rfl) rfl
theorem q194 : (Jvm.Cond.methodLink "SpongeDeskLaw" (42 : Nat) ({ cls := "SpongeDesk", name := "answer", desc := "(I)I" } : Jvm.MethodName)) ∈ lw_all := lw_g (lw_at lw_m1 183 rfl) rfl
theorem q198 : (Jvm.Cond.classLink "SpongeDeskLaw" (10 : Nat) "SpongeDeskModel") ∈ lw_all := lw_g (lw_at lw_m1 187 rfl) rfl
theorem q200 : (Jvm.Cond.methodLink "SpongeDeskLaw" (12 : Nat) ({ cls := "SpongeDeskModel", name := "<init>", desc := "()V" } : Jvm.MethodName)) ∈ lw_all := lw_g (lw_at lw_m1 189 rfl) rfl
theorem q245 : (Jvm.Cond.methodLink "SpongeDeskLaw" (17 : Nat) ({ cls := "SpongeDeskModel", name := "put", desc := "(IIII)Z" } : Jvm.MethodName)) ∈ lw_all := lw_g (lw_at lw_m1 234 rfl) rfl
theorem q249 : (Jvm.Cond.methodLink "SpongeDeskLaw" (22 : Nat) ({ cls := "SpongeDeskModel", name := "trim", desc := "(I)V" } : Jvm.MethodName)) ∈ lw_all := lw_g (lw_at lw_m1 238 rfl) rfl
theorem q258 : (Jvm.Cond.methodLink "SpongeDeskLaw" (27 : Nat) ({ cls := "SpongeDeskModel", name := "size", desc := "()I" } : Jvm.MethodName)) ∈ lw_all := lw_g (lw_at lw_m2 7 rfl) rfl
theorem q262 : (Jvm.Cond.methodLink "SpongeDeskLaw" (31 : Nat) ({ cls := "SpongeDeskModel", name := "begin", desc := "(I)V" } : Jvm.MethodName)) ∈ lw_all := lw_g (lw_at lw_m2 11 rfl) rfl
theorem q266 : (Jvm.Cond.methodLink "SpongeDeskLaw" (36 : Nat) ({ cls := "SpongeDeskModel", name := "feed", desc := "(II)Z" } : Jvm.MethodName)) ∈ lw_all := lw_g (lw_at lw_m2 15 rfl) rfl
theorem q274 : (Jvm.Cond.methodLink "SpongeDeskLaw" (41 : Nat) ({ cls := "SpongeDeskModel", name := "close", desc := "(I)I" } : Jvm.MethodName)) ∈ lw_all := lw_g (lw_at lw_m2 23 rfl) rfl
theorem q297 : (Jvm.Cond.methodLink "SpongeDeskLaw" (45 : Nat) ({ cls := "SpongeDeskModel", name := "answer", desc := "(I)I" } : Jvm.MethodName)) ∈ lw_all := lw_g (lw_at lw_m2 46 rfl) rfl
theorem q54 : (Jvm.Cond.arrayClass Jvm.ClassFile.FieldType.byte) ∈ lw_all := lw_g (lw_at lw_m1 43 rfl) rfl
theorem q55 : (Jvm.Cond.arrayClass Jvm.ClassFile.FieldType.int) ∈ lw_all := lw_g (lw_at lw_m1 44 rfl) rfl
theorem q244 : (Jvm.Cond.arrayClass Jvm.ClassFile.FieldType.long) ∈ lw_all := lw_g (lw_at lw_m1 233 rfl) rfl
abbrev vwCl : List vw_C := [(RX0, TX0, 9), (RX1, TX1, 9), (RX2, TX2, 4), (RX3, TX3, 13)]
end
section
set_option maxRecDepth 100000
theorem dX0_init_0 : decode cX0_init 0 = .ok (.aload_n 0, 1) := by decide +kernel
theorem dX0_init_1 : decode cX0_init 1 = .ok (.invokespecial 1, 3) := by decide +kernel
theorem dX0_init_4 : decode cX0_init 4 = .ok (.aload_n 0, 1) := by decide +kernel
theorem dX0_init_5 : decode cX0_init 5 = .ok (.sipush 4096, 3) := by decide +kernel
theorem dX0_init_8 : decode cX0_init 8 = .ok (.newarray .byte, 2) := by decide +kernel
theorem dX0_init_10 : decode cX0_init 10 = .ok (.putfield 9, 3) := by decide +kernel
theorem dX0_init_13 : decode cX0_init 13 = .ok (.aload_n 0, 1) := by decide +kernel
theorem dX0_init_14 : decode cX0_init 14 = .ok (.sipush 255, 3) := by decide +kernel
theorem dX0_init_17 : decode cX0_init 17 = .ok (.newarray .byte, 2) := by decide +kernel
theorem dX0_init_19 : decode cX0_init 19 = .ok (.putfield 13, 3) := by decide +kernel
theorem dX0_init_22 : decode cX0_init 22 = .ok (.aload_n 0, 1) := by decide +kernel
theorem dX0_init_23 : decode cX0_init 23 = .ok (.new 16, 3) := by decide +kernel
theorem dX0_init_26 : decode cX0_init 26 = .ok (.dup, 1) := by decide +kernel
theorem dX0_init_27 : decode cX0_init 27 = .ok (.invokespecial 18, 3) := by decide +kernel
theorem dX0_init_30 : decode cX0_init 30 = .ok (.putfield 19, 3) := by decide +kernel
theorem dX0_init_33 : decode cX0_init 33 = .ok (.aload_n 0, 1) := by decide +kernel
theorem dX0_init_34 : decode cX0_init 34 = .ok (.iconst 0, 1) := by decide +kernel
theorem dX0_init_35 : decode cX0_init 35 = .ok (.invokevirtual 23, 3) := by decide +kernel
theorem dX0_init_38 : decode cX0_init 38 = .ok (.return_, 1) := by decide +kernel
theorem dX0_begin_0 : decode cX0_begin 0 = .ok (.aload_n 0, 1) := by decide +kernel
theorem dX0_begin_1 : decode cX0_begin 1 = .ok (.iload_n 1, 1) := by decide +kernel
theorem dX0_begin_2 : decode cX0_begin 2 = .ok (.bipush 6, 2) := by decide +kernel
theorem dX0_begin_4 : decode cX0_begin 4 = .ok (.invokestatic 37, 3) := by decide +kernel
theorem dX0_begin_7 : decode cX0_begin 7 = .ok (.putfield 41, 3) := by decide +kernel
theorem dX0_begin_10 : decode cX0_begin 10 = .ok (.aload_n 0, 1) := by decide +kernel
theorem dX0_begin_11 : decode cX0_begin 11 = .ok (.getfield 19, 3) := by decide +kernel
theorem dX0_begin_14 : decode cX0_begin 14 = .ok (.getstatic 44, 3) := by decide +kernel
theorem dX0_begin_17 : decode cX0_begin 17 = .ok (.aload_n 0, 1) := by decide +kernel
theorem dX0_begin_18 : decode cX0_begin 18 = .ok (.getfield 41, 3) := by decide +kernel
theorem dX0_begin_21 : decode cX0_begin 21 = .ok (.iaload, 1) := by decide +kernel
theorem dX0_begin_22 : decode cX0_begin 22 = .ok (.invokevirtual 48, 3) := by decide +kernel
theorem dX0_begin_25 : decode cX0_begin 25 = .ok (.aload_n 0, 1) := by decide +kernel
theorem dX0_begin_26 : decode cX0_begin 26 = .ok (.iconst 0, 1) := by decide +kernel
theorem dX0_begin_27 : decode cX0_begin 27 = .ok (.putfield 49, 3) := by decide +kernel
theorem dX0_begin_30 : decode cX0_begin 30 = .ok (.aload_n 0, 1) := by decide +kernel
theorem dX0_begin_31 : decode cX0_begin 31 = .ok (.iconst 0, 1) := by decide +kernel
theorem dX0_begin_32 : decode cX0_begin 32 = .ok (.putfield 52, 3) := by decide +kernel
theorem dX0_begin_35 : decode cX0_begin 35 = .ok (.aload_n 0, 1) := by decide +kernel
theorem dX0_begin_36 : decode cX0_begin 36 = .ok (.iconst 0, 1) := by decide +kernel
theorem dX0_begin_37 : decode cX0_begin 37 = .ok (.putfield 55, 3) := by decide +kernel
theorem dX0_begin_40 : decode cX0_begin 40 = .ok (.aload_n 0, 1) := by decide +kernel
theorem dX0_begin_41 : decode cX0_begin 41 = .ok (.iconst 0, 1) := by decide +kernel
theorem dX0_begin_42 : decode cX0_begin 42 = .ok (.putfield 59, 3) := by decide +kernel
theorem dX0_begin_45 : decode cX0_begin 45 = .ok (.return_, 1) := by decide +kernel
theorem dX0_below_0 : decode cX0_below 0 = .ok (.iload_n 0, 1) := by decide +kernel
theorem dX0_below_1 : decode cX0_below 1 = .ok (.ldc 36, 2) := by decide +kernel
theorem dX0_below_3 : decode cX0_below 3 = .ok (.iand, 1) := by decide +kernel
theorem dX0_below_4 : decode cX0_below 4 = .ok (.iload_n 1, 1) := by decide +kernel
theorem dX0_below_5 : decode cX0_below 5 = .ok (.irem, 1) := by decide +kernel
theorem dX0_below_6 : decode cX0_below 6 = .ok (.ireturn, 1) := by decide +kernel
theorem dX0_put_0 : decode cX0_put 0 = .ok (.aload_n 0, 1) := by decide +kernel
theorem dX0_put_1 : decode cX0_put 1 = .ok (.getfield 27, 3) := by decide +kernel
theorem dX0_put_4 : decode cX0_put 4 = .ok (.sipush 4080, 3) := by decide +kernel
theorem dX0_put_7 : decode cX0_put 7 = .ok (.if_icmp .le 5, 3) := by decide +kernel
theorem dX0_put_10 : decode cX0_put 10 = .ok (.iconst 0, 1) := by decide +kernel
theorem dX0_put_11 : decode cX0_put 11 = .ok (.ireturn, 1) := by decide +kernel
theorem dX0_put_12 : decode cX0_put 12 = .ok (.aload_n 0, 1) := by decide +kernel
theorem dX0_put_13 : decode cX0_put 13 = .ok (.iload_n 1, 1) := by decide +kernel
theorem dX0_put_14 : decode cX0_put 14 = .ok (.invokevirtual 31, 3) := by decide +kernel
theorem dX0_put_17 : decode cX0_put 17 = .ok (.aload_n 0, 1) := by decide +kernel
theorem dX0_put_18 : decode cX0_put 18 = .ok (.iload_n 2, 1) := by decide +kernel
theorem dX0_put_19 : decode cX0_put 19 = .ok (.invokevirtual 31, 3) := by decide +kernel
theorem dX0_put_22 : decode cX0_put 22 = .ok (.aload_n 0, 1) := by decide +kernel
theorem dX0_put_23 : decode cX0_put 23 = .ok (.iload_n 3, 1) := by decide +kernel
theorem dX0_put_24 : decode cX0_put 24 = .ok (.invokevirtual 31, 3) := by decide +kernel
theorem dX0_put_27 : decode cX0_put 27 = .ok (.aload_n 0, 1) := by decide +kernel
theorem dX0_put_28 : decode cX0_put 28 = .ok (.iload 4, 2) := by decide +kernel
theorem dX0_put_30 : decode cX0_put 30 = .ok (.invokevirtual 31, 3) := by decide +kernel
theorem dX0_put_33 : decode cX0_put 33 = .ok (.iconst 1, 1) := by decide +kernel
theorem dX0_put_34 : decode cX0_put 34 = .ok (.ireturn, 1) := by decide +kernel
theorem dX0_add_0 : decode cX0_add 0 = .ok (.bipush 24, 2) := by decide +kernel
theorem dX0_add_2 : decode cX0_add 2 = .ok (.istore_n 2, 1) := by decide +kernel
theorem dX0_add_3 : decode cX0_add 3 = .ok (.iload_n 2, 1) := by decide +kernel
theorem dX0_add_4 : decode cX0_add 4 = .ok (.ifCond .lt 29, 3) := by decide +kernel
theorem dX0_add_7 : decode cX0_add 7 = .ok (.aload_n 0, 1) := by decide +kernel
theorem dX0_add_8 : decode cX0_add 8 = .ok (.getfield 9, 3) := by decide +kernel
theorem dX0_add_11 : decode cX0_add 11 = .ok (.aload_n 0, 1) := by decide +kernel
theorem dX0_add_12 : decode cX0_add 12 = .ok (.dup, 1) := by decide +kernel
theorem dX0_add_13 : decode cX0_add 13 = .ok (.getfield 27, 3) := by decide +kernel
theorem dX0_add_16 : decode cX0_add 16 = .ok (.dup_x1, 1) := by decide +kernel
theorem dX0_add_17 : decode cX0_add 17 = .ok (.iconst 1, 1) := by decide +kernel
theorem dX0_add_18 : decode cX0_add 18 = .ok (.iadd, 1) := by decide +kernel
theorem dX0_add_19 : decode cX0_add 19 = .ok (.putfield 27, 3) := by decide +kernel
theorem dX0_add_22 : decode cX0_add 22 = .ok (.iload_n 1, 1) := by decide +kernel
theorem dX0_add_23 : decode cX0_add 23 = .ok (.iload_n 2, 1) := by decide +kernel
theorem dX0_add_24 : decode cX0_add 24 = .ok (.ishr, 1) := by decide +kernel
theorem dX0_add_25 : decode cX0_add 25 = .ok (.i2b, 1) := by decide +kernel
theorem dX0_add_26 : decode cX0_add 26 = .ok (.bastore, 1) := by decide +kernel
theorem dX0_add_27 : decode cX0_add 27 = .ok (.iinc 2 (-8), 3) := by decide +kernel
theorem dX0_add_30 : decode cX0_add 30 = .ok (.goto (-27), 3) := by decide +kernel
theorem dX0_add_33 : decode cX0_add 33 = .ok (.return_, 1) := by decide +kernel
theorem dX0_trim_0 : decode cX0_trim 0 = .ok (.aload_n 0, 1) := by decide +kernel
theorem dX0_trim_1 : decode cX0_trim 1 = .ok (.iload_n 1, 1) := by decide +kernel
theorem dX0_trim_2 : decode cX0_trim 2 = .ok (.aload_n 0, 1) := by decide +kernel
theorem dX0_trim_3 : decode cX0_trim 3 = .ok (.getfield 27, 3) := by decide +kernel
theorem dX0_trim_6 : decode cX0_trim 6 = .ok (.iconst 1, 1) := by decide +kernel
theorem dX0_trim_7 : decode cX0_trim 7 = .ok (.iadd, 1) := by decide +kernel
theorem dX0_trim_8 : decode cX0_trim 8 = .ok (.invokestatic 37, 3) := by decide +kernel
theorem dX0_trim_11 : decode cX0_trim 11 = .ok (.putfield 27, 3) := by decide +kernel
theorem dX0_trim_14 : decode cX0_trim 14 = .ok (.return_, 1) := by decide +kernel
theorem dX0_size_0 : decode cX0_size 0 = .ok (.aload_n 0, 1) := by decide +kernel
theorem dX0_size_1 : decode cX0_size 1 = .ok (.getfield 27, 3) := by decide +kernel
theorem dX0_size_4 : decode cX0_size 4 = .ok (.ireturn, 1) := by decide +kernel
theorem dX0_feed_0 : decode cX0_feed 0 = .ok (.iload_n 1, 1) := by decide +kernel
theorem dX0_feed_1 : decode cX0_feed 1 = .ok (.aload_n 0, 1) := by decide +kernel
theorem dX0_feed_2 : decode cX0_feed 2 = .ok (.getfield 27, 3) := by decide +kernel
theorem dX0_feed_5 : decode cX0_feed 5 = .ok (.iconst 1, 1) := by decide +kernel
theorem dX0_feed_6 : decode cX0_feed 6 = .ok (.iadd, 1) := by decide +kernel
theorem dX0_feed_7 : decode cX0_feed 7 = .ok (.invokestatic 37, 3) := by decide +kernel
theorem dX0_feed_10 : decode cX0_feed 10 = .ok (.istore_n 3, 1) := by decide +kernel
theorem dX0_feed_11 : decode cX0_feed 11 = .ok (.iload_n 2, 1) := by decide +kernel
theorem dX0_feed_12 : decode cX0_feed 12 = .ok (.aload_n 0, 1) := by decide +kernel
theorem dX0_feed_13 : decode cX0_feed 13 = .ok (.getfield 27, 3) := by decide +kernel
theorem dX0_feed_16 : decode cX0_feed 16 = .ok (.iload_n 3, 1) := by decide +kernel
theorem dX0_feed_17 : decode cX0_feed 17 = .ok (.isub, 1) := by decide +kernel
theorem dX0_feed_18 : decode cX0_feed 18 = .ok (.iconst 1, 1) := by decide +kernel
theorem dX0_feed_19 : decode cX0_feed 19 = .ok (.iadd, 1) := by decide +kernel
theorem dX0_feed_20 : decode cX0_feed 20 = .ok (.invokestatic 37, 3) := by decide +kernel
theorem dX0_feed_23 : decode cX0_feed 23 = .ok (.istore 4, 2) := by decide +kernel
theorem dX0_feed_25 : decode cX0_feed 25 = .ok (.aload_n 0, 1) := by decide +kernel
theorem dX0_feed_26 : decode cX0_feed 26 = .ok (.getfield 55, 3) := by decide +kernel
theorem dX0_feed_29 : decode cX0_feed 29 = .ok (.ifCond .ne 16, 3) := by decide +kernel
theorem dX0_feed_32 : decode cX0_feed 32 = .ok (.aload_n 0, 1) := by decide +kernel
theorem dX0_feed_33 : decode cX0_feed 33 = .ok (.getfield 49, 3) := by decide +kernel
theorem dX0_feed_36 : decode cX0_feed 36 = .ok (.iload 4, 2) := by decide +kernel
theorem dX0_feed_38 : decode cX0_feed 38 = .ok (.iadd, 1) := by decide +kernel
theorem dX0_feed_39 : decode cX0_feed 39 = .ok (.sipush 2048, 3) := by decide +kernel
theorem dX0_feed_42 : decode cX0_feed 42 = .ok (.if_icmp .le 5, 3) := by decide +kernel
theorem dX0_feed_45 : decode cX0_feed 45 = .ok (.iconst 0, 1) := by decide +kernel
theorem dX0_feed_46 : decode cX0_feed 46 = .ok (.ireturn, 1) := by decide +kernel
theorem dX0_feed_47 : decode cX0_feed 47 = .ok (.iload_n 3, 1) := by decide +kernel
theorem dX0_feed_48 : decode cX0_feed 48 = .ok (.istore 5, 2) := by decide +kernel
theorem dX0_feed_50 : decode cX0_feed 50 = .ok (.iload 5, 2) := by decide +kernel
theorem dX0_feed_52 : decode cX0_feed 52 = .ok (.iload_n 3, 1) := by decide +kernel
theorem dX0_feed_53 : decode cX0_feed 53 = .ok (.iload 4, 2) := by decide +kernel
theorem dX0_feed_55 : decode cX0_feed 55 = .ok (.iadd, 1) := by decide +kernel
theorem dX0_feed_56 : decode cX0_feed 56 = .ok (.if_icmp .ge 27, 3) := by decide +kernel
theorem dX0_feed_59 : decode cX0_feed 59 = .ok (.aload_n 0, 1) := by decide +kernel
theorem dX0_feed_60 : decode cX0_feed 60 = .ok (.getfield 19, 3) := by decide +kernel
theorem dX0_feed_63 : decode cX0_feed 63 = .ok (.aload_n 0, 1) := by decide +kernel
theorem dX0_feed_64 : decode cX0_feed 64 = .ok (.getfield 9, 3) := by decide +kernel
theorem dX0_feed_67 : decode cX0_feed 67 = .ok (.iload 5, 2) := by decide +kernel
theorem dX0_feed_69 : decode cX0_feed 69 = .ok (.baload, 1) := by decide +kernel
theorem dX0_feed_70 : decode cX0_feed 70 = .ok (.sipush 255, 3) := by decide +kernel
theorem dX0_feed_73 : decode cX0_feed 73 = .ok (.iand, 1) := by decide +kernel
theorem dX0_feed_74 : decode cX0_feed 74 = .ok (.invokevirtual 62, 3) := by decide +kernel
theorem dX0_feed_77 : decode cX0_feed 77 = .ok (.iinc 5 1, 3) := by decide +kernel
theorem dX0_feed_80 : decode cX0_feed 80 = .ok (.goto (-30), 3) := by decide +kernel
theorem dX0_feed_83 : decode cX0_feed 83 = .ok (.aload_n 0, 1) := by decide +kernel
theorem dX0_feed_84 : decode cX0_feed 84 = .ok (.dup, 1) := by decide +kernel
theorem dX0_feed_85 : decode cX0_feed 85 = .ok (.getfield 49, 3) := by decide +kernel
theorem dX0_feed_88 : decode cX0_feed 88 = .ok (.iload 4, 2) := by decide +kernel
theorem dX0_feed_90 : decode cX0_feed 90 = .ok (.iadd, 1) := by decide +kernel
theorem dX0_feed_91 : decode cX0_feed 91 = .ok (.putfield 49, 3) := by decide +kernel
theorem dX0_feed_94 : decode cX0_feed 94 = .ok (.iconst 1, 1) := by decide +kernel
theorem dX0_feed_95 : decode cX0_feed 95 = .ok (.ireturn, 1) := by decide +kernel
theorem dX0_close_0 : decode cX0_close 0 = .ok (.aload_n 0, 1) := by decide +kernel
theorem dX0_close_1 : decode cX0_close 1 = .ok (.getfield 41, 3) := by decide +kernel
theorem dX0_close_4 : decode cX0_close 4 = .ok (.iconst 4, 1) := by decide +kernel
theorem dX0_close_5 : decode cX0_close 5 = .ok (.if_icmp .ge 7, 3) := by decide +kernel
theorem dX0_close_8 : decode cX0_close 8 = .ok (.iconst 1, 1) := by decide +kernel
theorem dX0_close_9 : decode cX0_close 9 = .ok (.goto 4, 3) := by decide +kernel
theorem dX0_close_12 : decode cX0_close 12 = .ok (.iconst 0, 1) := by decide +kernel
theorem dX0_close_13 : decode cX0_close 13 = .ok (.istore_n 2, 1) := by decide +kernel
theorem dX0_close_14 : decode cX0_close 14 = .ok (.iload_n 2, 1) := by decide +kernel
theorem dX0_close_15 : decode cX0_close 15 = .ok (.ifCond .eq 14, 3) := by decide +kernel
theorem dX0_close_18 : decode cX0_close 18 = .ok (.getstatic 65, 3) := by decide +kernel
theorem dX0_close_21 : decode cX0_close 21 = .ok (.aload_n 0, 1) := by decide +kernel
theorem dX0_close_22 : decode cX0_close 22 = .ok (.getfield 41, 3) := by decide +kernel
theorem dX0_close_25 : decode cX0_close 25 = .ok (.iaload, 1) := by decide +kernel
theorem dX0_close_26 : decode cX0_close 26 = .ok (.goto 8, 3) := by decide +kernel
theorem dX0_close_29 : decode cX0_close 29 = .ok (.iload_n 1, 1) := by decide +kernel
theorem dX0_close_30 : decode cX0_close 30 = .ok (.sipush 255, 3) := by decide +kernel
theorem dX0_close_33 : decode cX0_close 33 = .ok (.iand, 1) := by decide +kernel
theorem dX0_close_34 : decode cX0_close 34 = .ok (.istore_n 3, 1) := by decide +kernel
theorem dX0_close_35 : decode cX0_close 35 = .ok (.iload_n 2, 1) := by decide +kernel
theorem dX0_close_36 : decode cX0_close 36 = .ok (.ifCond .eq 10, 3) := by decide +kernel
theorem dX0_close_39 : decode cX0_close 39 = .ok (.aload_n 0, 1) := by decide +kernel
theorem dX0_close_40 : decode cX0_close 40 = .ok (.getfield 55, 3) := by decide +kernel
theorem dX0_close_43 : decode cX0_close 43 = .ok (.ifCond .ne 15, 3) := by decide +kernel
theorem dX0_close_46 : decode cX0_close 46 = .ok (.aload_n 0, 1) := by decide +kernel
theorem dX0_close_47 : decode cX0_close 47 = .ok (.getfield 52, 3) := by decide +kernel
theorem dX0_close_50 : decode cX0_close 50 = .ok (.iload_n 3, 1) := by decide +kernel
theorem dX0_close_51 : decode cX0_close 51 = .ok (.iadd, 1) := by decide +kernel
theorem dX0_close_52 : decode cX0_close 52 = .ok (.sipush 4096, 3) := by decide +kernel
theorem dX0_close_55 : decode cX0_close 55 = .ok (.if_icmp .le 5, 3) := by decide +kernel
theorem dX0_close_58 : decode cX0_close 58 = .ok (.iconst (-1), 1) := by decide +kernel
theorem dX0_close_59 : decode cX0_close 59 = .ok (.ireturn, 1) := by decide +kernel
theorem dX0_close_60 : decode cX0_close 60 = .ok (.aload_n 0, 1) := by decide +kernel
theorem dX0_close_61 : decode cX0_close 61 = .ok (.getfield 55, 3) := by decide +kernel
theorem dX0_close_64 : decode cX0_close 64 = .ok (.ifCond .ne 21, 3) := by decide +kernel
theorem dX0_close_67 : decode cX0_close 67 = .ok (.aload_n 0, 1) := by decide +kernel
theorem dX0_close_68 : decode cX0_close 68 = .ok (.getfield 19, 3) := by decide +kernel
theorem dX0_close_71 : decode cX0_close 71 = .ok (.iload_n 2, 1) := by decide +kernel
theorem dX0_close_72 : decode cX0_close 72 = .ok (.ifCond .eq 8, 3) := by decide +kernel
theorem dX0_close_75 : decode cX0_close 75 = .ok (.bipush 6, 2) := by decide +kernel
theorem dX0_close_77 : decode cX0_close 77 = .ok (.goto 5, 3) := by decide +kernel
theorem dX0_close_80 : decode cX0_close 80 = .ok (.bipush 31, 2) := by decide +kernel
theorem dX0_close_82 : decode cX0_close 82 = .ok (.invokevirtual 68, 3) := by decide +kernel
theorem dX0_close_85 : decode cX0_close 85 = .ok (.aload_n 0, 1) := by decide +kernel
theorem dX0_close_86 : decode cX0_close 86 = .ok (.iconst 1, 1) := by decide +kernel
theorem dX0_close_87 : decode cX0_close 87 = .ok (.putfield 55, 3) := by decide +kernel
theorem dX0_close_90 : decode cX0_close 90 = .ok (.iconst 0, 1) := by decide +kernel
theorem dX0_close_91 : decode cX0_close 91 = .ok (.istore 4, 2) := by decide +kernel
theorem dX0_close_93 : decode cX0_close 93 = .ok (.iload 4, 2) := by decide +kernel
theorem dX0_close_95 : decode cX0_close 95 = .ok (.iload_n 3, 1) := by decide +kernel
theorem dX0_close_96 : decode cX0_close 96 = .ok (.if_icmp .ge 24, 3) := by decide +kernel
theorem dX0_close_99 : decode cX0_close 99 = .ok (.aload_n 0, 1) := by decide +kernel
theorem dX0_close_100 : decode cX0_close 100 = .ok (.getfield 13, 3) := by decide +kernel
theorem dX0_close_103 : decode cX0_close 103 = .ok (.iload 4, 2) := by decide +kernel
theorem dX0_close_105 : decode cX0_close 105 = .ok (.aload_n 0, 1) := by decide +kernel
theorem dX0_close_106 : decode cX0_close 106 = .ok (.getfield 19, 3) := by decide +kernel
theorem dX0_close_109 : decode cX0_close 109 = .ok (.invokevirtual 71, 3) := by decide +kernel
theorem dX0_close_112 : decode cX0_close 112 = .ok (.i2b, 1) := by decide +kernel
theorem dX0_close_113 : decode cX0_close 113 = .ok (.bastore, 1) := by decide +kernel
theorem dX0_close_114 : decode cX0_close 114 = .ok (.iinc 4 1, 3) := by decide +kernel
theorem dX0_close_117 : decode cX0_close 117 = .ok (.goto (-24), 3) := by decide +kernel
theorem dX0_close_120 : decode cX0_close 120 = .ok (.aload_n 0, 1) := by decide +kernel
theorem dX0_close_121 : decode cX0_close 121 = .ok (.dup, 1) := by decide +kernel
theorem dX0_close_122 : decode cX0_close 122 = .ok (.getfield 52, 3) := by decide +kernel
theorem dX0_close_125 : decode cX0_close 125 = .ok (.iload_n 3, 1) := by decide +kernel
theorem dX0_close_126 : decode cX0_close 126 = .ok (.iadd, 1) := by decide +kernel
theorem dX0_close_127 : decode cX0_close 127 = .ok (.putfield 52, 3) := by decide +kernel
theorem dX0_close_130 : decode cX0_close 130 = .ok (.aload_n 0, 1) := by decide +kernel
theorem dX0_close_131 : decode cX0_close 131 = .ok (.iload_n 3, 1) := by decide +kernel
theorem dX0_close_132 : decode cX0_close 132 = .ok (.putfield 59, 3) := by decide +kernel
theorem dX0_close_135 : decode cX0_close 135 = .ok (.iload_n 3, 1) := by decide +kernel
theorem dX0_close_136 : decode cX0_close 136 = .ok (.ireturn, 1) := by decide +kernel
theorem dX0_answer_0 : decode cX0_answer 0 = .ok (.aload_n 0, 1) := by decide +kernel
theorem dX0_answer_1 : decode cX0_answer 1 = .ok (.getfield 59, 3) := by decide +kernel
theorem dX0_answer_4 : decode cX0_answer 4 = .ok (.ifCond .ne 7, 3) := by decide +kernel
theorem dX0_answer_7 : decode cX0_answer 7 = .ok (.iconst (-1), 1) := by decide +kernel
theorem dX0_answer_8 : decode cX0_answer 8 = .ok (.goto 20, 3) := by decide +kernel
theorem dX0_answer_11 : decode cX0_answer 11 = .ok (.aload_n 0, 1) := by decide +kernel
theorem dX0_answer_12 : decode cX0_answer 12 = .ok (.getfield 13, 3) := by decide +kernel
theorem dX0_answer_15 : decode cX0_answer 15 = .ok (.iload_n 1, 1) := by decide +kernel
theorem dX0_answer_16 : decode cX0_answer 16 = .ok (.aload_n 0, 1) := by decide +kernel
theorem dX0_answer_17 : decode cX0_answer 17 = .ok (.getfield 59, 3) := by decide +kernel
theorem dX0_answer_20 : decode cX0_answer 20 = .ok (.invokestatic 37, 3) := by decide +kernel
theorem dX0_answer_23 : decode cX0_answer 23 = .ok (.baload, 1) := by decide +kernel
theorem dX0_answer_24 : decode cX0_answer 24 = .ok (.sipush 255, 3) := by decide +kernel
theorem dX0_answer_27 : decode cX0_answer 27 = .ok (.iand, 1) := by decide +kernel
theorem dX0_answer_28 : decode cX0_answer 28 = .ok (.ireturn, 1) := by decide +kernel
theorem dX2_init_0 : decode cX2_init 0 = .ok (.aload_n 0, 1) := by decide +kernel
theorem dX2_init_1 : decode cX2_init 1 = .ok (.invokespecial 3, 3) := by decide +kernel
theorem dX2_init_4 : decode cX2_init 4 = .ok (.aload_n 0, 1) := by decide +kernel
theorem dX2_init_5 : decode cX2_init 5 = .ok (.bipush 25, 2) := by decide +kernel
theorem dX2_init_7 : decode cX2_init 7 = .ok (.newarray .int, 2) := by decide +kernel
theorem dX2_init_9 : decode cX2_init 9 = .ok (.putfield 9, 3) := by decide +kernel
theorem dX2_init_12 : decode cX2_init 12 = .ok (.aload_n 0, 1) := by decide +kernel
theorem dX2_init_13 : decode cX2_init 13 = .ok (.bipush 25, 2) := by decide +kernel
theorem dX2_init_15 : decode cX2_init 15 = .ok (.newarray .int, 2) := by decide +kernel
theorem dX2_init_17 : decode cX2_init 17 = .ok (.putfield 15, 3) := by decide +kernel
theorem dX2_init_20 : decode cX2_init 20 = .ok (.aload_n 0, 1) := by decide +kernel
theorem dX2_init_21 : decode cX2_init 21 = .ok (.bipush 24, 2) := by decide +kernel
theorem dX2_init_23 : decode cX2_init 23 = .ok (.newarray .int, 2) := by decide +kernel
theorem dX2_init_25 : decode cX2_init 25 = .ok (.putfield 18, 3) := by decide +kernel
theorem dX2_init_28 : decode cX2_init 28 = .ok (.aload_n 0, 1) := by decide +kernel
theorem dX2_init_29 : decode cX2_init 29 = .ok (.bipush 24, 2) := by decide +kernel
theorem dX2_init_31 : decode cX2_init 31 = .ok (.newarray .int, 2) := by decide +kernel
theorem dX2_init_33 : decode cX2_init 33 = .ok (.putfield 21, 3) := by decide +kernel
theorem dX2_init_36 : decode cX2_init 36 = .ok (.iconst 1, 1) := by decide +kernel
theorem dX2_init_37 : decode cX2_init 37 = .ok (.istore_n 1, 1) := by decide +kernel
theorem dX2_init_38 : decode cX2_init 38 = .ok (.iconst 0, 1) := by decide +kernel
theorem dX2_init_39 : decode cX2_init 39 = .ok (.istore_n 2, 1) := by decide +kernel
theorem dX2_init_40 : decode cX2_init 40 = .ok (.iconst 0, 1) := by decide +kernel
theorem dX2_init_41 : decode cX2_init 41 = .ok (.istore_n 3, 1) := by decide +kernel
theorem dX2_init_42 : decode cX2_init 42 = .ok (.iload_n 3, 1) := by decide +kernel
theorem dX2_init_43 : decode cX2_init 43 = .ok (.bipush 24, 2) := by decide +kernel
theorem dX2_init_45 : decode cX2_init 45 = .ok (.if_icmp .ge 47, 3) := by decide +kernel
theorem dX2_init_48 : decode cX2_init 48 = .ok (.aload_n 0, 1) := by decide +kernel
theorem dX2_init_49 : decode cX2_init 49 = .ok (.getfield 9, 3) := by decide +kernel
theorem dX2_init_52 : decode cX2_init 52 = .ok (.iload_n 1, 1) := by decide +kernel
theorem dX2_init_53 : decode cX2_init 53 = .ok (.iconst 5, 1) := by decide +kernel
theorem dX2_init_54 : decode cX2_init 54 = .ok (.iload_n 2, 1) := by decide +kernel
theorem dX2_init_55 : decode cX2_init 55 = .ok (.imul, 1) := by decide +kernel
theorem dX2_init_56 : decode cX2_init 56 = .ok (.iadd, 1) := by decide +kernel
theorem dX2_init_57 : decode cX2_init 57 = .ok (.iload_n 3, 1) := by decide +kernel
theorem dX2_init_58 : decode cX2_init 58 = .ok (.iconst 1, 1) := by decide +kernel
theorem dX2_init_59 : decode cX2_init 59 = .ok (.iadd, 1) := by decide +kernel
theorem dX2_init_60 : decode cX2_init 60 = .ok (.iload_n 3, 1) := by decide +kernel
theorem dX2_init_61 : decode cX2_init 61 = .ok (.iconst 2, 1) := by decide +kernel
theorem dX2_init_62 : decode cX2_init 62 = .ok (.iadd, 1) := by decide +kernel
theorem dX2_init_63 : decode cX2_init 63 = .ok (.imul, 1) := by decide +kernel
theorem dX2_init_64 : decode cX2_init 64 = .ok (.iconst 2, 1) := by decide +kernel
theorem dX2_init_65 : decode cX2_init 65 = .ok (.idiv, 1) := by decide +kernel
theorem dX2_init_66 : decode cX2_init 66 = .ok (.bipush 64, 2) := by decide +kernel
theorem dX2_init_68 : decode cX2_init 68 = .ok (.irem, 1) := by decide +kernel
theorem dX2_init_69 : decode cX2_init 69 = .ok (.iastore, 1) := by decide +kernel
theorem dX2_init_70 : decode cX2_init 70 = .ok (.iconst 2, 1) := by decide +kernel
theorem dX2_init_71 : decode cX2_init 71 = .ok (.iload_n 1, 1) := by decide +kernel
theorem dX2_init_72 : decode cX2_init 72 = .ok (.imul, 1) := by decide +kernel
theorem dX2_init_73 : decode cX2_init 73 = .ok (.iconst 3, 1) := by decide +kernel
theorem dX2_init_74 : decode cX2_init 74 = .ok (.iload_n 2, 1) := by decide +kernel
theorem dX2_init_75 : decode cX2_init 75 = .ok (.imul, 1) := by decide +kernel
theorem dX2_init_76 : decode cX2_init 76 = .ok (.iadd, 1) := by decide +kernel
theorem dX2_init_77 : decode cX2_init 77 = .ok (.iconst 5, 1) := by decide +kernel
theorem dX2_init_78 : decode cX2_init 78 = .ok (.irem, 1) := by decide +kernel
theorem dX2_init_79 : decode cX2_init 79 = .ok (.istore 4, 2) := by decide +kernel
theorem dX2_init_81 : decode cX2_init 81 = .ok (.iload_n 2, 1) := by decide +kernel
theorem dX2_init_82 : decode cX2_init 82 = .ok (.istore_n 1, 1) := by decide +kernel
theorem dX2_init_83 : decode cX2_init 83 = .ok (.iload 4, 2) := by decide +kernel
theorem dX2_init_85 : decode cX2_init 85 = .ok (.istore_n 2, 1) := by decide +kernel
theorem dX2_init_86 : decode cX2_init 86 = .ok (.iinc 3 1, 3) := by decide +kernel
theorem dX2_init_89 : decode cX2_init 89 = .ok (.goto (-47), 3) := by decide +kernel
theorem dX2_init_92 : decode cX2_init 92 = .ok (.iconst 0, 1) := by decide +kernel
theorem dX2_init_93 : decode cX2_init 93 = .ok (.istore_n 3, 1) := by decide +kernel
theorem dX2_init_94 : decode cX2_init 94 = .ok (.iload_n 3, 1) := by decide +kernel
theorem dX2_init_95 : decode cX2_init 95 = .ok (.bipush 25, 2) := by decide +kernel
theorem dX2_init_97 : decode cX2_init 97 = .ok (.if_icmp .ge 34, 3) := by decide +kernel
theorem dX2_init_100 : decode cX2_init 100 = .ok (.aload_n 0, 1) := by decide +kernel
theorem dX2_init_101 : decode cX2_init 101 = .ok (.getfield 15, 3) := by decide +kernel
theorem dX2_init_104 : decode cX2_init 104 = .ok (.iload_n 3, 1) := by decide +kernel
theorem dX2_init_105 : decode cX2_init 105 = .ok (.iload_n 3, 1) := by decide +kernel
theorem dX2_init_106 : decode cX2_init 106 = .ok (.iconst 5, 1) := by decide +kernel
theorem dX2_init_107 : decode cX2_init 107 = .ok (.idiv, 1) := by decide +kernel
theorem dX2_init_108 : decode cX2_init 108 = .ok (.iconst 5, 1) := by decide +kernel
theorem dX2_init_109 : decode cX2_init 109 = .ok (.iconst 2, 1) := by decide +kernel
theorem dX2_init_110 : decode cX2_init 110 = .ok (.iload_n 3, 1) := by decide +kernel
theorem dX2_init_111 : decode cX2_init 111 = .ok (.iconst 5, 1) := by decide +kernel
theorem dX2_init_112 : decode cX2_init 112 = .ok (.irem, 1) := by decide +kernel
theorem dX2_init_113 : decode cX2_init 113 = .ok (.imul, 1) := by decide +kernel
theorem dX2_init_114 : decode cX2_init 114 = .ok (.iconst 3, 1) := by decide +kernel
theorem dX2_init_115 : decode cX2_init 115 = .ok (.iload_n 3, 1) := by decide +kernel
theorem dX2_init_116 : decode cX2_init 116 = .ok (.iconst 5, 1) := by decide +kernel
theorem dX2_init_117 : decode cX2_init 117 = .ok (.idiv, 1) := by decide +kernel
theorem dX2_init_118 : decode cX2_init 118 = .ok (.imul, 1) := by decide +kernel
theorem dX2_init_119 : decode cX2_init 119 = .ok (.iadd, 1) := by decide +kernel
theorem dX2_init_120 : decode cX2_init 120 = .ok (.iconst 5, 1) := by decide +kernel
theorem dX2_init_121 : decode cX2_init 121 = .ok (.irem, 1) := by decide +kernel
theorem dX2_init_122 : decode cX2_init 122 = .ok (.imul, 1) := by decide +kernel
theorem dX2_init_123 : decode cX2_init 123 = .ok (.iadd, 1) := by decide +kernel
theorem dX2_init_124 : decode cX2_init 124 = .ok (.iastore, 1) := by decide +kernel
theorem dX2_init_125 : decode cX2_init 125 = .ok (.iinc 3 1, 3) := by decide +kernel
theorem dX2_init_128 : decode cX2_init 128 = .ok (.goto (-34), 3) := by decide +kernel
theorem dX2_init_131 : decode cX2_init 131 = .ok (.iconst 1, 1) := by decide +kernel
theorem dX2_init_132 : decode cX2_init 132 = .ok (.istore_n 3, 1) := by decide +kernel
theorem dX2_init_133 : decode cX2_init 133 = .ok (.iconst 0, 1) := by decide +kernel
theorem dX2_init_134 : decode cX2_init 134 = .ok (.istore 4, 2) := by decide +kernel
theorem dX2_init_136 : decode cX2_init 136 = .ok (.iload 4, 2) := by decide +kernel
theorem dX2_init_138 : decode cX2_init 138 = .ok (.bipush 24, 2) := by decide +kernel
theorem dX2_init_140 : decode cX2_init 140 = .ok (.if_icmp .ge 88, 3) := by decide +kernel
theorem dX2_init_143 : decode cX2_init 143 = .ok (.iconst 0, 1) := by decide +kernel
theorem dX2_init_144 : decode cX2_init 144 = .ok (.istore 5, 2) := by decide +kernel
theorem dX2_init_146 : decode cX2_init 146 = .ok (.iload 5, 2) := by decide +kernel
theorem dX2_init_148 : decode cX2_init 148 = .ok (.bipush 7, 2) := by decide +kernel
theorem dX2_init_150 : decode cX2_init 150 = .ok (.if_icmp .ge 72, 3) := by decide +kernel
theorem dX2_init_153 : decode cX2_init 153 = .ok (.iload_n 3, 1) := by decide +kernel
theorem dX2_init_154 : decode cX2_init 154 = .ok (.iconst 1, 1) := by decide +kernel
theorem dX2_init_155 : decode cX2_init 155 = .ok (.iand, 1) := by decide +kernel
theorem dX2_init_156 : decode cX2_init 156 = .ok (.iconst 1, 1) := by decide +kernel
theorem dX2_init_157 : decode cX2_init 157 = .ok (.if_icmp .ne 42, 3) := by decide +kernel
theorem dX2_init_160 : decode cX2_init 160 = .ok (.iload 5, 2) := by decide +kernel
theorem dX2_init_162 : decode cX2_init 162 = .ok (.ifCond .ne 17, 3) := by decide +kernel
theorem dX2_init_165 : decode cX2_init 165 = .ok (.aload_n 0, 1) := by decide +kernel
theorem dX2_init_166 : decode cX2_init 166 = .ok (.getfield 18, 3) := by decide +kernel
theorem dX2_init_169 : decode cX2_init 169 = .ok (.iload 4, 2) := by decide +kernel
theorem dX2_init_171 : decode cX2_init 171 = .ok (.dup2, 1) := by decide +kernel
theorem dX2_init_172 : decode cX2_init 172 = .ok (.iaload, 1) := by decide +kernel
theorem dX2_init_173 : decode cX2_init 173 = .ok (.iconst 1, 1) := by decide +kernel
theorem dX2_init_174 : decode cX2_init 174 = .ok (.ior, 1) := by decide +kernel
theorem dX2_init_175 : decode cX2_init 175 = .ok (.iastore, 1) := by decide +kernel
theorem dX2_init_176 : decode cX2_init 176 = .ok (.goto 23, 3) := by decide +kernel
theorem dX2_init_179 : decode cX2_init 179 = .ok (.aload_n 0, 1) := by decide +kernel
theorem dX2_init_180 : decode cX2_init 180 = .ok (.getfield 21, 3) := by decide +kernel
theorem dX2_init_183 : decode cX2_init 183 = .ok (.iload 4, 2) := by decide +kernel
theorem dX2_init_185 : decode cX2_init 185 = .ok (.dup2, 1) := by decide +kernel
theorem dX2_init_186 : decode cX2_init 186 = .ok (.iaload, 1) := by decide +kernel
theorem dX2_init_187 : decode cX2_init 187 = .ok (.iconst 1, 1) := by decide +kernel
theorem dX2_init_188 : decode cX2_init 188 = .ok (.iconst 1, 1) := by decide +kernel
theorem dX2_init_189 : decode cX2_init 189 = .ok (.iload 5, 2) := by decide +kernel
theorem dX2_init_191 : decode cX2_init 191 = .ok (.iconst 1, 1) := by decide +kernel
theorem dX2_init_192 : decode cX2_init 192 = .ok (.isub, 1) := by decide +kernel
theorem dX2_init_193 : decode cX2_init 193 = .ok (.ishl, 1) := by decide +kernel
theorem dX2_init_194 : decode cX2_init 194 = .ok (.iconst 1, 1) := by decide +kernel
theorem dX2_init_195 : decode cX2_init 195 = .ok (.isub, 1) := by decide +kernel
theorem dX2_init_196 : decode cX2_init 196 = .ok (.ishl, 1) := by decide +kernel
theorem dX2_init_197 : decode cX2_init 197 = .ok (.ior, 1) := by decide +kernel
theorem dX2_init_198 : decode cX2_init 198 = .ok (.iastore, 1) := by decide +kernel
theorem dX2_init_199 : decode cX2_init 199 = .ok (.iconst 2, 1) := by decide +kernel
theorem dX2_init_200 : decode cX2_init 200 = .ok (.iload_n 3, 1) := by decide +kernel
theorem dX2_init_201 : decode cX2_init 201 = .ok (.imul, 1) := by decide +kernel
theorem dX2_init_202 : decode cX2_init 202 = .ok (.istore_n 3, 1) := by decide +kernel
theorem dX2_init_203 : decode cX2_init 203 = .ok (.iload_n 3, 1) := by decide +kernel
theorem dX2_init_204 : decode cX2_init 204 = .ok (.sipush 255, 3) := by decide +kernel
theorem dX2_init_207 : decode cX2_init 207 = .ok (.if_icmp .le 9, 3) := by decide +kernel
theorem dX2_init_210 : decode cX2_init 210 = .ok (.iload_n 3, 1) := by decide +kernel
theorem dX2_init_211 : decode cX2_init 211 = .ok (.sipush 369, 3) := by decide +kernel
theorem dX2_init_214 : decode cX2_init 214 = .ok (.ixor, 1) := by decide +kernel
theorem dX2_init_215 : decode cX2_init 215 = .ok (.istore_n 3, 1) := by decide +kernel
theorem dX2_init_216 : decode cX2_init 216 = .ok (.iinc 5 1, 3) := by decide +kernel
theorem dX2_init_219 : decode cX2_init 219 = .ok (.goto (-73), 3) := by decide +kernel
theorem dX2_init_222 : decode cX2_init 222 = .ok (.iinc 4 1, 3) := by decide +kernel
theorem dX2_init_225 : decode cX2_init 225 = .ok (.goto (-89), 3) := by decide +kernel
theorem dX2_init_228 : decode cX2_init 228 = .ok (.return_, 1) := by decide +kernel
theorem dJ0_rotateLeft_0 : decode cJ0_rotateLeft 0 = .ok (.iload_n 0, 1) := by decide +kernel
theorem dJ0_rotateLeft_1 : decode cJ0_rotateLeft 1 = .ok (.iload_n 1, 1) := by decide +kernel
theorem dJ0_rotateLeft_2 : decode cJ0_rotateLeft 2 = .ok (.ishl, 1) := by decide +kernel
theorem dJ0_rotateLeft_3 : decode cJ0_rotateLeft 3 = .ok (.iload_n 0, 1) := by decide +kernel
theorem dJ0_rotateLeft_4 : decode cJ0_rotateLeft 4 = .ok (.iload_n 1, 1) := by decide +kernel
theorem dJ0_rotateLeft_5 : decode cJ0_rotateLeft 5 = .ok (.ineg, 1) := by decide +kernel
theorem dJ0_rotateLeft_6 : decode cJ0_rotateLeft 6 = .ok (.iushr, 1) := by decide +kernel
theorem dJ0_rotateLeft_7 : decode cJ0_rotateLeft 7 = .ok (.ior, 1) := by decide +kernel
theorem dJ0_rotateLeft_8 : decode cJ0_rotateLeft 8 = .ok (.ireturn, 1) := by decide +kernel
theorem dJ1_init_0 : decode cJ1_init 0 = .ok (.return_, 1) := by decide +kernel
end
section
set_option maxRecDepth 100000
theorem dX1_init_0 : decode cX1_init 0 = .ok (.aload_n 0, 1) := by decide +kernel
theorem dX1_init_1 : decode cX1_init 1 = .ok (.invokespecial 3, 3) := by decide +kernel
theorem dX1_init_4 : decode cX1_init 4 = .ok (.aload_n 0, 1) := by decide +kernel
theorem dX1_init_5 : decode cX1_init 5 = .ok (.new 9, 3) := by decide +kernel
theorem dX1_init_8 : decode cX1_init 8 = .ok (.dup, 1) := by decide +kernel
theorem dX1_init_9 : decode cX1_init 9 = .ok (.invokespecial 11, 3) := by decide +kernel
theorem dX1_init_12 : decode cX1_init 12 = .ok (.putfield 12, 3) := by decide +kernel
theorem dX1_init_15 : decode cX1_init 15 = .ok (.aload_n 0, 1) := by decide +kernel
theorem dX1_init_16 : decode cX1_init 16 = .ok (.bipush 25, 2) := by decide +kernel
theorem dX1_init_18 : decode cX1_init 18 = .ok (.newarray .int, 2) := by decide +kernel
theorem dX1_init_20 : decode cX1_init 20 = .ok (.putfield 18, 3) := by decide +kernel
theorem dX1_init_23 : decode cX1_init 23 = .ok (.aload_n 0, 1) := by decide +kernel
theorem dX1_init_24 : decode cX1_init 24 = .ok (.bipush 25, 2) := by decide +kernel
theorem dX1_init_26 : decode cX1_init 26 = .ok (.newarray .int, 2) := by decide +kernel
theorem dX1_init_28 : decode cX1_init 28 = .ok (.putfield 22, 3) := by decide +kernel
theorem dX1_init_31 : decode cX1_init 31 = .ok (.aload_n 0, 1) := by decide +kernel
theorem dX1_init_32 : decode cX1_init 32 = .ok (.bipush 25, 2) := by decide +kernel
theorem dX1_init_34 : decode cX1_init 34 = .ok (.newarray .int, 2) := by decide +kernel
theorem dX1_init_36 : decode cX1_init 36 = .ok (.putfield 25, 3) := by decide +kernel
theorem dX1_init_39 : decode cX1_init 39 = .ok (.aload_n 0, 1) := by decide +kernel
theorem dX1_init_40 : decode cX1_init 40 = .ok (.bipush 25, 2) := by decide +kernel
theorem dX1_init_42 : decode cX1_init 42 = .ok (.newarray .int, 2) := by decide +kernel
theorem dX1_init_44 : decode cX1_init 44 = .ok (.putfield 28, 3) := by decide +kernel
theorem dX1_init_47 : decode cX1_init 47 = .ok (.aload_n 0, 1) := by decide +kernel
theorem dX1_init_48 : decode cX1_init 48 = .ok (.iconst 5, 1) := by decide +kernel
theorem dX1_init_49 : decode cX1_init 49 = .ok (.newarray .int, 2) := by decide +kernel
theorem dX1_init_51 : decode cX1_init 51 = .ok (.putfield 31, 3) := by decide +kernel
theorem dX1_init_54 : decode cX1_init 54 = .ok (.aload_n 0, 1) := by decide +kernel
theorem dX1_init_55 : decode cX1_init 55 = .ok (.iconst 5, 1) := by decide +kernel
theorem dX1_init_56 : decode cX1_init 56 = .ok (.newarray .int, 2) := by decide +kernel
theorem dX1_init_58 : decode cX1_init 58 = .ok (.putfield 34, 3) := by decide +kernel
theorem dX1_init_61 : decode cX1_init 61 = .ok (.return_, 1) := by decide +kernel
theorem dX1_begin_0 : decode cX1_begin 0 = .ok (.aload_n 0, 1) := by decide +kernel
theorem dX1_begin_1 : decode cX1_begin 1 = .ok (.iload_n 1, 1) := by decide +kernel
theorem dX1_begin_2 : decode cX1_begin 2 = .ok (.putfield 37, 3) := by decide +kernel
theorem dX1_begin_5 : decode cX1_begin 5 = .ok (.aload_n 0, 1) := by decide +kernel
theorem dX1_begin_6 : decode cX1_begin 6 = .ok (.iconst 0, 1) := by decide +kernel
theorem dX1_begin_7 : decode cX1_begin 7 = .ok (.putfield 41, 3) := by decide +kernel
theorem dX1_begin_10 : decode cX1_begin 10 = .ok (.iconst 0, 1) := by decide +kernel
theorem dX1_begin_11 : decode cX1_begin 11 = .ok (.istore_n 2, 1) := by decide +kernel
theorem dX1_begin_12 : decode cX1_begin 12 = .ok (.iload_n 2, 1) := by decide +kernel
theorem dX1_begin_13 : decode cX1_begin 13 = .ok (.bipush 25, 2) := by decide +kernel
theorem dX1_begin_15 : decode cX1_begin 15 = .ok (.if_icmp .ge 23, 3) := by decide +kernel
theorem dX1_begin_18 : decode cX1_begin 18 = .ok (.aload_n 0, 1) := by decide +kernel
theorem dX1_begin_19 : decode cX1_begin 19 = .ok (.getfield 18, 3) := by decide +kernel
theorem dX1_begin_22 : decode cX1_begin 22 = .ok (.iload_n 2, 1) := by decide +kernel
theorem dX1_begin_23 : decode cX1_begin 23 = .ok (.iconst 0, 1) := by decide +kernel
theorem dX1_begin_24 : decode cX1_begin 24 = .ok (.iastore, 1) := by decide +kernel
theorem dX1_begin_25 : decode cX1_begin 25 = .ok (.aload_n 0, 1) := by decide +kernel
theorem dX1_begin_26 : decode cX1_begin 26 = .ok (.getfield 22, 3) := by decide +kernel
theorem dX1_begin_29 : decode cX1_begin 29 = .ok (.iload_n 2, 1) := by decide +kernel
theorem dX1_begin_30 : decode cX1_begin 30 = .ok (.iconst 0, 1) := by decide +kernel
theorem dX1_begin_31 : decode cX1_begin 31 = .ok (.iastore, 1) := by decide +kernel
theorem dX1_begin_32 : decode cX1_begin 32 = .ok (.iinc 2 1, 3) := by decide +kernel
theorem dX1_begin_35 : decode cX1_begin 35 = .ok (.goto (-23), 3) := by decide +kernel
theorem dX1_begin_38 : decode cX1_begin 38 = .ok (.return_, 1) := by decide +kernel
theorem dX1_take_0 : decode cX1_take 0 = .ok (.aload_n 0, 1) := by decide +kernel
theorem dX1_take_1 : decode cX1_take 1 = .ok (.aload_n 0, 1) := by decide +kernel
theorem dX1_take_2 : decode cX1_take 2 = .ok (.dup, 1) := by decide +kernel
theorem dX1_take_3 : decode cX1_take 3 = .ok (.getfield 41, 3) := by decide +kernel
theorem dX1_take_6 : decode cX1_take 6 = .ok (.dup_x1, 1) := by decide +kernel
theorem dX1_take_7 : decode cX1_take 7 = .ok (.iconst 1, 1) := by decide +kernel
theorem dX1_take_8 : decode cX1_take 8 = .ok (.iadd, 1) := by decide +kernel
theorem dX1_take_9 : decode cX1_take 9 = .ok (.putfield 41, 3) := by decide +kernel
theorem dX1_take_12 : decode cX1_take 12 = .ok (.iload_n 1, 1) := by decide +kernel
theorem dX1_take_13 : decode cX1_take 13 = .ok (.invokevirtual 48, 3) := by decide +kernel
theorem dX1_take_16 : decode cX1_take 16 = .ok (.aload_n 0, 1) := by decide +kernel
theorem dX1_take_17 : decode cX1_take 17 = .ok (.getfield 41, 3) := by decide +kernel
theorem dX1_take_20 : decode cX1_take 20 = .ok (.aload_n 0, 1) := by decide +kernel
theorem dX1_take_21 : decode cX1_take 21 = .ok (.getfield 37, 3) := by decide +kernel
theorem dX1_take_24 : decode cX1_take 24 = .ok (.if_icmp .ne 12, 3) := by decide +kernel
theorem dX1_take_27 : decode cX1_take 27 = .ok (.aload_n 0, 1) := by decide +kernel
theorem dX1_take_28 : decode cX1_take 28 = .ok (.invokevirtual 52, 3) := by decide +kernel
theorem dX1_take_31 : decode cX1_take 31 = .ok (.aload_n 0, 1) := by decide +kernel
theorem dX1_take_32 : decode cX1_take 32 = .ok (.iconst 0, 1) := by decide +kernel
theorem dX1_take_33 : decode cX1_take 33 = .ok (.putfield 41, 3) := by decide +kernel
theorem dX1_take_36 : decode cX1_take 36 = .ok (.return_, 1) := by decide +kernel
theorem dX1_join_0 : decode cX1_join 0 = .ok (.iload_n 1, 1) := by decide +kernel
theorem dX1_join_1 : decode cX1_join 1 = .ok (.bipush 8, 2) := by decide +kernel
theorem dX1_join_3 : decode cX1_join 3 = .ok (.idiv, 1) := by decide +kernel
theorem dX1_join_4 : decode cX1_join 4 = .ok (.istore_n 3, 1) := by decide +kernel
theorem dX1_join_5 : decode cX1_join 5 = .ok (.iconst 4, 1) := by decide +kernel
theorem dX1_join_6 : decode cX1_join 6 = .ok (.iload_n 1, 1) := by decide +kernel
theorem dX1_join_7 : decode cX1_join 7 = .ok (.bipush 8, 2) := by decide +kernel
theorem dX1_join_9 : decode cX1_join 9 = .ok (.irem, 1) := by decide +kernel
theorem dX1_join_10 : decode cX1_join 10 = .ok (.imul, 1) := by decide +kernel
theorem dX1_join_11 : decode cX1_join 11 = .ok (.istore 4, 2) := by decide +kernel
theorem dX1_join_13 : decode cX1_join 13 = .ok (.aload_n 0, 1) := by decide +kernel
theorem dX1_join_14 : decode cX1_join 14 = .ok (.getfield 18, 3) := by decide +kernel
theorem dX1_join_17 : decode cX1_join 17 = .ok (.iload_n 3, 1) := by decide +kernel
theorem dX1_join_18 : decode cX1_join 18 = .ok (.dup2, 1) := by decide +kernel
theorem dX1_join_19 : decode cX1_join 19 = .ok (.iaload, 1) := by decide +kernel
theorem dX1_join_20 : decode cX1_join 20 = .ok (.iload_n 2, 1) := by decide +kernel
theorem dX1_join_21 : decode cX1_join 21 = .ok (.invokestatic 44, 3) := by decide +kernel
theorem dX1_join_24 : decode cX1_join 24 = .ok (.iload 4, 2) := by decide +kernel
theorem dX1_join_26 : decode cX1_join 26 = .ok (.ishl, 1) := by decide +kernel
theorem dX1_join_27 : decode cX1_join 27 = .ok (.ixor, 1) := by decide +kernel
theorem dX1_join_28 : decode cX1_join 28 = .ok (.iastore, 1) := by decide +kernel
theorem dX1_join_29 : decode cX1_join 29 = .ok (.aload_n 0, 1) := by decide +kernel
theorem dX1_join_30 : decode cX1_join 30 = .ok (.getfield 22, 3) := by decide +kernel
theorem dX1_join_33 : decode cX1_join 33 = .ok (.iload_n 3, 1) := by decide +kernel
theorem dX1_join_34 : decode cX1_join 34 = .ok (.dup2, 1) := by decide +kernel
theorem dX1_join_35 : decode cX1_join 35 = .ok (.iaload, 1) := by decide +kernel
theorem dX1_join_36 : decode cX1_join 36 = .ok (.iload_n 2, 1) := by decide +kernel
theorem dX1_join_37 : decode cX1_join 37 = .ok (.iconst 1, 1) := by decide +kernel
theorem dX1_join_38 : decode cX1_join 38 = .ok (.ishr, 1) := by decide +kernel
theorem dX1_join_39 : decode cX1_join 39 = .ok (.invokestatic 44, 3) := by decide +kernel
theorem dX1_join_42 : decode cX1_join 42 = .ok (.iload 4, 2) := by decide +kernel
theorem dX1_join_44 : decode cX1_join 44 = .ok (.ishl, 1) := by decide +kernel
theorem dX1_join_45 : decode cX1_join 45 = .ok (.ixor, 1) := by decide +kernel
theorem dX1_join_46 : decode cX1_join 46 = .ok (.iastore, 1) := by decide +kernel
theorem dX1_join_47 : decode cX1_join 47 = .ok (.return_, 1) := by decide +kernel
theorem dX1_half_0 : decode cX1_half 0 = .ok (.iload_n 0, 1) := by decide +kernel
theorem dX1_half_1 : decode cX1_half 1 = .ok (.iconst 1, 1) := by decide +kernel
theorem dX1_half_2 : decode cX1_half 2 = .ok (.iand, 1) := by decide +kernel
theorem dX1_half_3 : decode cX1_half 3 = .ok (.iload_n 0, 1) := by decide +kernel
theorem dX1_half_4 : decode cX1_half 4 = .ok (.iconst 1, 1) := by decide +kernel
theorem dX1_half_5 : decode cX1_half 5 = .ok (.ishr, 1) := by decide +kernel
theorem dX1_half_6 : decode cX1_half 6 = .ok (.iconst 2, 1) := by decide +kernel
theorem dX1_half_7 : decode cX1_half 7 = .ok (.iand, 1) := by decide +kernel
theorem dX1_half_8 : decode cX1_half 8 = .ok (.ior, 1) := by decide +kernel
theorem dX1_half_9 : decode cX1_half 9 = .ok (.iload_n 0, 1) := by decide +kernel
theorem dX1_half_10 : decode cX1_half 10 = .ok (.iconst 2, 1) := by decide +kernel
theorem dX1_half_11 : decode cX1_half 11 = .ok (.ishr, 1) := by decide +kernel
theorem dX1_half_12 : decode cX1_half 12 = .ok (.iconst 4, 1) := by decide +kernel
theorem dX1_half_13 : decode cX1_half 13 = .ok (.iand, 1) := by decide +kernel
theorem dX1_half_14 : decode cX1_half 14 = .ok (.ior, 1) := by decide +kernel
theorem dX1_half_15 : decode cX1_half 15 = .ok (.iload_n 0, 1) := by decide +kernel
theorem dX1_half_16 : decode cX1_half 16 = .ok (.iconst 3, 1) := by decide +kernel
theorem dX1_half_17 : decode cX1_half 17 = .ok (.ishr, 1) := by decide +kernel
theorem dX1_half_18 : decode cX1_half 18 = .ok (.bipush 8, 2) := by decide +kernel
theorem dX1_half_20 : decode cX1_half 20 = .ok (.iand, 1) := by decide +kernel
theorem dX1_half_21 : decode cX1_half 21 = .ok (.ior, 1) := by decide +kernel
theorem dX1_half_22 : decode cX1_half 22 = .ok (.ireturn, 1) := by decide +kernel
theorem dX1_mix_0 : decode cX1_mix 0 = .ok (.iconst 0, 1) := by decide +kernel
theorem dX1_mix_1 : decode cX1_mix 1 = .ok (.istore_n 1, 1) := by decide +kernel
theorem dX1_mix_2 : decode cX1_mix 2 = .ok (.iload_n 1, 1) := by decide +kernel
theorem dX1_mix_3 : decode cX1_mix 3 = .ok (.bipush 24, 2) := by decide +kernel
theorem dX1_mix_5 : decode cX1_mix 5 = .ok (.if_icmp .ge 57, 3) := by decide +kernel
theorem dX1_mix_8 : decode cX1_mix 8 = .ok (.aload_n 0, 1) := by decide +kernel
theorem dX1_mix_9 : decode cX1_mix 9 = .ok (.invokevirtual 58, 3) := by decide +kernel
theorem dX1_mix_12 : decode cX1_mix 12 = .ok (.aload_n 0, 1) := by decide +kernel
theorem dX1_mix_13 : decode cX1_mix 13 = .ok (.invokevirtual 61, 3) := by decide +kernel
theorem dX1_mix_16 : decode cX1_mix 16 = .ok (.aload_n 0, 1) := by decide +kernel
theorem dX1_mix_17 : decode cX1_mix 17 = .ok (.invokevirtual 64, 3) := by decide +kernel
theorem dX1_mix_20 : decode cX1_mix 20 = .ok (.aload_n 0, 1) := by decide +kernel
theorem dX1_mix_21 : decode cX1_mix 21 = .ok (.getfield 18, 3) := by decide +kernel
theorem dX1_mix_24 : decode cX1_mix 24 = .ok (.iconst 0, 1) := by decide +kernel
theorem dX1_mix_25 : decode cX1_mix 25 = .ok (.dup2, 1) := by decide +kernel
theorem dX1_mix_26 : decode cX1_mix 26 = .ok (.iaload, 1) := by decide +kernel
theorem dX1_mix_27 : decode cX1_mix 27 = .ok (.aload_n 0, 1) := by decide +kernel
theorem dX1_mix_28 : decode cX1_mix 28 = .ok (.getfield 12, 3) := by decide +kernel
theorem dX1_mix_31 : decode cX1_mix 31 = .ok (.getfield 67, 3) := by decide +kernel
theorem dX1_mix_34 : decode cX1_mix 34 = .ok (.iload_n 1, 1) := by decide +kernel
theorem dX1_mix_35 : decode cX1_mix 35 = .ok (.iaload, 1) := by decide +kernel
theorem dX1_mix_36 : decode cX1_mix 36 = .ok (.ixor, 1) := by decide +kernel
theorem dX1_mix_37 : decode cX1_mix 37 = .ok (.iastore, 1) := by decide +kernel
theorem dX1_mix_38 : decode cX1_mix 38 = .ok (.aload_n 0, 1) := by decide +kernel
theorem dX1_mix_39 : decode cX1_mix 39 = .ok (.getfield 22, 3) := by decide +kernel
theorem dX1_mix_42 : decode cX1_mix 42 = .ok (.iconst 0, 1) := by decide +kernel
theorem dX1_mix_43 : decode cX1_mix 43 = .ok (.dup2, 1) := by decide +kernel
theorem dX1_mix_44 : decode cX1_mix 44 = .ok (.iaload, 1) := by decide +kernel
theorem dX1_mix_45 : decode cX1_mix 45 = .ok (.aload_n 0, 1) := by decide +kernel
theorem dX1_mix_46 : decode cX1_mix 46 = .ok (.getfield 12, 3) := by decide +kernel
theorem dX1_mix_49 : decode cX1_mix 49 = .ok (.getfield 70, 3) := by decide +kernel
theorem dX1_mix_52 : decode cX1_mix 52 = .ok (.iload_n 1, 1) := by decide +kernel
theorem dX1_mix_53 : decode cX1_mix 53 = .ok (.iaload, 1) := by decide +kernel
theorem dX1_mix_54 : decode cX1_mix 54 = .ok (.ixor, 1) := by decide +kernel
theorem dX1_mix_55 : decode cX1_mix 55 = .ok (.iastore, 1) := by decide +kernel
theorem dX1_mix_56 : decode cX1_mix 56 = .ok (.iinc 1 1, 3) := by decide +kernel
theorem dX1_mix_59 : decode cX1_mix 59 = .ok (.goto (-57), 3) := by decide +kernel
theorem dX1_mix_62 : decode cX1_mix 62 = .ok (.return_, 1) := by decide +kernel
theorem dX1_columns_0 : decode cX1_columns 0 = .ok (.iconst 0, 1) := by decide +kernel
theorem dX1_columns_1 : decode cX1_columns 1 = .ok (.istore_n 1, 1) := by decide +kernel
theorem dX1_columns_2 : decode cX1_columns 2 = .ok (.iload_n 1, 1) := by decide +kernel
theorem dX1_columns_3 : decode cX1_columns 3 = .ok (.iconst 5, 1) := by decide +kernel
theorem dX1_columns_4 : decode cX1_columns 4 = .ok (.if_icmp .ge 67, 3) := by decide +kernel
theorem dX1_columns_7 : decode cX1_columns 7 = .ok (.aload_n 0, 1) := by decide +kernel
theorem dX1_columns_8 : decode cX1_columns 8 = .ok (.getfield 31, 3) := by decide +kernel
theorem dX1_columns_11 : decode cX1_columns 11 = .ok (.iload_n 1, 1) := by decide +kernel
theorem dX1_columns_12 : decode cX1_columns 12 = .ok (.iconst 0, 1) := by decide +kernel
theorem dX1_columns_13 : decode cX1_columns 13 = .ok (.iastore, 1) := by decide +kernel
theorem dX1_columns_14 : decode cX1_columns 14 = .ok (.aload_n 0, 1) := by decide +kernel
theorem dX1_columns_15 : decode cX1_columns 15 = .ok (.getfield 34, 3) := by decide +kernel
theorem dX1_columns_18 : decode cX1_columns 18 = .ok (.iload_n 1, 1) := by decide +kernel
theorem dX1_columns_19 : decode cX1_columns 19 = .ok (.iconst 0, 1) := by decide +kernel
theorem dX1_columns_20 : decode cX1_columns 20 = .ok (.iastore, 1) := by decide +kernel
theorem dX1_columns_21 : decode cX1_columns 21 = .ok (.iload_n 1, 1) := by decide +kernel
theorem dX1_columns_22 : decode cX1_columns 22 = .ok (.istore_n 2, 1) := by decide +kernel
theorem dX1_columns_23 : decode cX1_columns 23 = .ok (.iload_n 2, 1) := by decide +kernel
theorem dX1_columns_24 : decode cX1_columns 24 = .ok (.bipush 25, 2) := by decide +kernel
theorem dX1_columns_26 : decode cX1_columns 26 = .ok (.if_icmp .ge 39, 3) := by decide +kernel
theorem dX1_columns_29 : decode cX1_columns 29 = .ok (.aload_n 0, 1) := by decide +kernel
theorem dX1_columns_30 : decode cX1_columns 30 = .ok (.getfield 31, 3) := by decide +kernel
theorem dX1_columns_33 : decode cX1_columns 33 = .ok (.iload_n 1, 1) := by decide +kernel
theorem dX1_columns_34 : decode cX1_columns 34 = .ok (.dup2, 1) := by decide +kernel
theorem dX1_columns_35 : decode cX1_columns 35 = .ok (.iaload, 1) := by decide +kernel
theorem dX1_columns_36 : decode cX1_columns 36 = .ok (.aload_n 0, 1) := by decide +kernel
theorem dX1_columns_37 : decode cX1_columns 37 = .ok (.getfield 18, 3) := by decide +kernel
theorem dX1_columns_40 : decode cX1_columns 40 = .ok (.iload_n 2, 1) := by decide +kernel
theorem dX1_columns_41 : decode cX1_columns 41 = .ok (.iaload, 1) := by decide +kernel
theorem dX1_columns_42 : decode cX1_columns 42 = .ok (.ixor, 1) := by decide +kernel
theorem dX1_columns_43 : decode cX1_columns 43 = .ok (.iastore, 1) := by decide +kernel
theorem dX1_columns_44 : decode cX1_columns 44 = .ok (.aload_n 0, 1) := by decide +kernel
theorem dX1_columns_45 : decode cX1_columns 45 = .ok (.getfield 34, 3) := by decide +kernel
theorem dX1_columns_48 : decode cX1_columns 48 = .ok (.iload_n 1, 1) := by decide +kernel
theorem dX1_columns_49 : decode cX1_columns 49 = .ok (.dup2, 1) := by decide +kernel
theorem dX1_columns_50 : decode cX1_columns 50 = .ok (.iaload, 1) := by decide +kernel
theorem dX1_columns_51 : decode cX1_columns 51 = .ok (.aload_n 0, 1) := by decide +kernel
theorem dX1_columns_52 : decode cX1_columns 52 = .ok (.getfield 22, 3) := by decide +kernel
theorem dX1_columns_55 : decode cX1_columns 55 = .ok (.iload_n 2, 1) := by decide +kernel
theorem dX1_columns_56 : decode cX1_columns 56 = .ok (.iaload, 1) := by decide +kernel
theorem dX1_columns_57 : decode cX1_columns 57 = .ok (.ixor, 1) := by decide +kernel
theorem dX1_columns_58 : decode cX1_columns 58 = .ok (.iastore, 1) := by decide +kernel
theorem dX1_columns_59 : decode cX1_columns 59 = .ok (.iinc 2 5, 3) := by decide +kernel
theorem dX1_columns_62 : decode cX1_columns 62 = .ok (.goto (-39), 3) := by decide +kernel
theorem dX1_columns_65 : decode cX1_columns 65 = .ok (.iinc 1 1, 3) := by decide +kernel
theorem dX1_columns_68 : decode cX1_columns 68 = .ok (.goto (-66), 3) := by decide +kernel
theorem dX1_columns_71 : decode cX1_columns 71 = .ok (.iconst 0, 1) := by decide +kernel
theorem dX1_columns_72 : decode cX1_columns 72 = .ok (.istore_n 1, 1) := by decide +kernel
theorem dX1_columns_73 : decode cX1_columns 73 = .ok (.iload_n 1, 1) := by decide +kernel
theorem dX1_columns_74 : decode cX1_columns 74 = .ok (.bipush 25, 2) := by decide +kernel
theorem dX1_columns_76 : decode cX1_columns 76 = .ok (.if_icmp .ge 81, 3) := by decide +kernel
theorem dX1_columns_79 : decode cX1_columns 79 = .ok (.aload_n 0, 1) := by decide +kernel
theorem dX1_columns_80 : decode cX1_columns 80 = .ok (.getfield 18, 3) := by decide +kernel
theorem dX1_columns_83 : decode cX1_columns 83 = .ok (.iload_n 1, 1) := by decide +kernel
theorem dX1_columns_84 : decode cX1_columns 84 = .ok (.dup2, 1) := by decide +kernel
theorem dX1_columns_85 : decode cX1_columns 85 = .ok (.iaload, 1) := by decide +kernel
theorem dX1_columns_86 : decode cX1_columns 86 = .ok (.aload_n 0, 1) := by decide +kernel
theorem dX1_columns_87 : decode cX1_columns 87 = .ok (.getfield 31, 3) := by decide +kernel
theorem dX1_columns_90 : decode cX1_columns 90 = .ok (.iload_n 1, 1) := by decide +kernel
theorem dX1_columns_91 : decode cX1_columns 91 = .ok (.iconst 5, 1) := by decide +kernel
theorem dX1_columns_92 : decode cX1_columns 92 = .ok (.irem, 1) := by decide +kernel
theorem dX1_columns_93 : decode cX1_columns 93 = .ok (.iconst 4, 1) := by decide +kernel
theorem dX1_columns_94 : decode cX1_columns 94 = .ok (.iadd, 1) := by decide +kernel
theorem dX1_columns_95 : decode cX1_columns 95 = .ok (.iconst 5, 1) := by decide +kernel
theorem dX1_columns_96 : decode cX1_columns 96 = .ok (.irem, 1) := by decide +kernel
theorem dX1_columns_97 : decode cX1_columns 97 = .ok (.iaload, 1) := by decide +kernel
theorem dX1_columns_98 : decode cX1_columns 98 = .ok (.aload_n 0, 1) := by decide +kernel
theorem dX1_columns_99 : decode cX1_columns 99 = .ok (.getfield 34, 3) := by decide +kernel
theorem dX1_columns_102 : decode cX1_columns 102 = .ok (.iload_n 1, 1) := by decide +kernel
theorem dX1_columns_103 : decode cX1_columns 103 = .ok (.iconst 5, 1) := by decide +kernel
theorem dX1_columns_104 : decode cX1_columns 104 = .ok (.irem, 1) := by decide +kernel
theorem dX1_columns_105 : decode cX1_columns 105 = .ok (.iconst 1, 1) := by decide +kernel
theorem dX1_columns_106 : decode cX1_columns 106 = .ok (.iadd, 1) := by decide +kernel
theorem dX1_columns_107 : decode cX1_columns 107 = .ok (.iconst 5, 1) := by decide +kernel
theorem dX1_columns_108 : decode cX1_columns 108 = .ok (.irem, 1) := by decide +kernel
theorem dX1_columns_109 : decode cX1_columns 109 = .ok (.iaload, 1) := by decide +kernel
theorem dX1_columns_110 : decode cX1_columns 110 = .ok (.iconst 1, 1) := by decide +kernel
theorem dX1_columns_111 : decode cX1_columns 111 = .ok (.invokestatic 73, 3) := by decide +kernel
theorem dX1_columns_114 : decode cX1_columns 114 = .ok (.ixor, 1) := by decide +kernel
theorem dX1_columns_115 : decode cX1_columns 115 = .ok (.ixor, 1) := by decide +kernel
theorem dX1_columns_116 : decode cX1_columns 116 = .ok (.iastore, 1) := by decide +kernel
theorem dX1_columns_117 : decode cX1_columns 117 = .ok (.aload_n 0, 1) := by decide +kernel
theorem dX1_columns_118 : decode cX1_columns 118 = .ok (.getfield 22, 3) := by decide +kernel
theorem dX1_columns_121 : decode cX1_columns 121 = .ok (.iload_n 1, 1) := by decide +kernel
theorem dX1_columns_122 : decode cX1_columns 122 = .ok (.dup2, 1) := by decide +kernel
theorem dX1_columns_123 : decode cX1_columns 123 = .ok (.iaload, 1) := by decide +kernel
theorem dX1_columns_124 : decode cX1_columns 124 = .ok (.aload_n 0, 1) := by decide +kernel
theorem dX1_columns_125 : decode cX1_columns 125 = .ok (.getfield 34, 3) := by decide +kernel
theorem dX1_columns_128 : decode cX1_columns 128 = .ok (.iload_n 1, 1) := by decide +kernel
theorem dX1_columns_129 : decode cX1_columns 129 = .ok (.iconst 5, 1) := by decide +kernel
theorem dX1_columns_130 : decode cX1_columns 130 = .ok (.irem, 1) := by decide +kernel
theorem dX1_columns_131 : decode cX1_columns 131 = .ok (.iconst 4, 1) := by decide +kernel
theorem dX1_columns_132 : decode cX1_columns 132 = .ok (.iadd, 1) := by decide +kernel
theorem dX1_columns_133 : decode cX1_columns 133 = .ok (.iconst 5, 1) := by decide +kernel
theorem dX1_columns_134 : decode cX1_columns 134 = .ok (.irem, 1) := by decide +kernel
theorem dX1_columns_135 : decode cX1_columns 135 = .ok (.iaload, 1) := by decide +kernel
theorem dX1_columns_136 : decode cX1_columns 136 = .ok (.aload_n 0, 1) := by decide +kernel
theorem dX1_columns_137 : decode cX1_columns 137 = .ok (.getfield 31, 3) := by decide +kernel
theorem dX1_columns_140 : decode cX1_columns 140 = .ok (.iload_n 1, 1) := by decide +kernel
theorem dX1_columns_141 : decode cX1_columns 141 = .ok (.iconst 5, 1) := by decide +kernel
theorem dX1_columns_142 : decode cX1_columns 142 = .ok (.irem, 1) := by decide +kernel
theorem dX1_columns_143 : decode cX1_columns 143 = .ok (.iconst 1, 1) := by decide +kernel
theorem dX1_columns_144 : decode cX1_columns 144 = .ok (.iadd, 1) := by decide +kernel
theorem dX1_columns_145 : decode cX1_columns 145 = .ok (.iconst 5, 1) := by decide +kernel
theorem dX1_columns_146 : decode cX1_columns 146 = .ok (.irem, 1) := by decide +kernel
theorem dX1_columns_147 : decode cX1_columns 147 = .ok (.iaload, 1) := by decide +kernel
theorem dX1_columns_148 : decode cX1_columns 148 = .ok (.ixor, 1) := by decide +kernel
theorem dX1_columns_149 : decode cX1_columns 149 = .ok (.ixor, 1) := by decide +kernel
theorem dX1_columns_150 : decode cX1_columns 150 = .ok (.iastore, 1) := by decide +kernel
theorem dX1_columns_151 : decode cX1_columns 151 = .ok (.iinc 1 1, 3) := by decide +kernel
theorem dX1_columns_154 : decode cX1_columns 154 = .ok (.goto (-81), 3) := by decide +kernel
theorem dX1_columns_157 : decode cX1_columns 157 = .ok (.return_, 1) := by decide +kernel
theorem dX1_move_0 : decode cX1_move 0 = .ok (.iconst 0, 1) := by decide +kernel
theorem dX1_move_1 : decode cX1_move 1 = .ok (.istore_n 1, 1) := by decide +kernel
theorem dX1_move_2 : decode cX1_move 2 = .ok (.iload_n 1, 1) := by decide +kernel
theorem dX1_move_3 : decode cX1_move 3 = .ok (.bipush 25, 2) := by decide +kernel
theorem dX1_move_5 : decode cX1_move 5 = .ok (.if_icmp .ge 117, 3) := by decide +kernel
theorem dX1_move_8 : decode cX1_move 8 = .ok (.aload_n 0, 1) := by decide +kernel
theorem dX1_move_9 : decode cX1_move 9 = .ok (.getfield 12, 3) := by decide +kernel
theorem dX1_move_12 : decode cX1_move 12 = .ok (.getfield 79, 3) := by decide +kernel
theorem dX1_move_15 : decode cX1_move 15 = .ok (.iload_n 1, 1) := by decide +kernel
theorem dX1_move_16 : decode cX1_move 16 = .ok (.iaload, 1) := by decide +kernel
theorem dX1_move_17 : decode cX1_move 17 = .ok (.istore_n 2, 1) := by decide +kernel
theorem dX1_move_18 : decode cX1_move 18 = .ok (.aload_n 0, 1) := by decide +kernel
theorem dX1_move_19 : decode cX1_move 19 = .ok (.getfield 12, 3) := by decide +kernel
theorem dX1_move_22 : decode cX1_move 22 = .ok (.getfield 82, 3) := by decide +kernel
theorem dX1_move_25 : decode cX1_move 25 = .ok (.iload_n 1, 1) := by decide +kernel
theorem dX1_move_26 : decode cX1_move 26 = .ok (.iaload, 1) := by decide +kernel
theorem dX1_move_27 : decode cX1_move 27 = .ok (.istore_n 3, 1) := by decide +kernel
theorem dX1_move_28 : decode cX1_move 28 = .ok (.iload_n 2, 1) := by decide +kernel
theorem dX1_move_29 : decode cX1_move 29 = .ok (.iconst 2, 1) := by decide +kernel
theorem dX1_move_30 : decode cX1_move 30 = .ok (.idiv, 1) := by decide +kernel
theorem dX1_move_31 : decode cX1_move 31 = .ok (.istore 4, 2) := by decide +kernel
theorem dX1_move_33 : decode cX1_move 33 = .ok (.iload_n 2, 1) := by decide +kernel
theorem dX1_move_34 : decode cX1_move 34 = .ok (.iconst 2, 1) := by decide +kernel
theorem dX1_move_35 : decode cX1_move 35 = .ok (.irem, 1) := by decide +kernel
theorem dX1_move_36 : decode cX1_move 36 = .ok (.iconst 1, 1) := by decide +kernel
theorem dX1_move_37 : decode cX1_move 37 = .ok (.if_icmp .ne 7, 3) := by decide +kernel
theorem dX1_move_40 : decode cX1_move 40 = .ok (.iconst 1, 1) := by decide +kernel
theorem dX1_move_41 : decode cX1_move 41 = .ok (.goto 4, 3) := by decide +kernel
theorem dX1_move_44 : decode cX1_move 44 = .ok (.iconst 0, 1) := by decide +kernel
theorem dX1_move_45 : decode cX1_move 45 = .ok (.istore 5, 2) := by decide +kernel
theorem dX1_move_47 : decode cX1_move 47 = .ok (.aload_n 0, 1) := by decide +kernel
theorem dX1_move_48 : decode cX1_move 48 = .ok (.getfield 25, 3) := by decide +kernel
theorem dX1_move_51 : decode cX1_move 51 = .ok (.iload_n 3, 1) := by decide +kernel
theorem dX1_move_52 : decode cX1_move 52 = .ok (.iload 5, 2) := by decide +kernel
theorem dX1_move_54 : decode cX1_move 54 = .ok (.ifCond .eq 19, 3) := by decide +kernel
theorem dX1_move_57 : decode cX1_move 57 = .ok (.aload_n 0, 1) := by decide +kernel
theorem dX1_move_58 : decode cX1_move 58 = .ok (.getfield 22, 3) := by decide +kernel
theorem dX1_move_61 : decode cX1_move 61 = .ok (.iload_n 1, 1) := by decide +kernel
theorem dX1_move_62 : decode cX1_move 62 = .ok (.iaload, 1) := by decide +kernel
theorem dX1_move_63 : decode cX1_move 63 = .ok (.iload 4, 2) := by decide +kernel
theorem dX1_move_65 : decode cX1_move 65 = .ok (.iconst 1, 1) := by decide +kernel
theorem dX1_move_66 : decode cX1_move 66 = .ok (.iadd, 1) := by decide +kernel
theorem dX1_move_67 : decode cX1_move 67 = .ok (.invokestatic 73, 3) := by decide +kernel
theorem dX1_move_70 : decode cX1_move 70 = .ok (.goto 14, 3) := by decide +kernel
theorem dX1_move_73 : decode cX1_move 73 = .ok (.aload_n 0, 1) := by decide +kernel
theorem dX1_move_74 : decode cX1_move 74 = .ok (.getfield 18, 3) := by decide +kernel
theorem dX1_move_77 : decode cX1_move 77 = .ok (.iload_n 1, 1) := by decide +kernel
theorem dX1_move_78 : decode cX1_move 78 = .ok (.iaload, 1) := by decide +kernel
theorem dX1_move_79 : decode cX1_move 79 = .ok (.iload 4, 2) := by decide +kernel
theorem dX1_move_81 : decode cX1_move 81 = .ok (.invokestatic 73, 3) := by decide +kernel
theorem dX1_move_84 : decode cX1_move 84 = .ok (.iastore, 1) := by decide +kernel
theorem dX1_move_85 : decode cX1_move 85 = .ok (.aload_n 0, 1) := by decide +kernel
theorem dX1_move_86 : decode cX1_move 86 = .ok (.getfield 28, 3) := by decide +kernel
theorem dX1_move_89 : decode cX1_move 89 = .ok (.iload_n 3, 1) := by decide +kernel
theorem dX1_move_90 : decode cX1_move 90 = .ok (.iload 5, 2) := by decide +kernel
theorem dX1_move_92 : decode cX1_move 92 = .ok (.ifCond .eq 12, 3) := by decide +kernel
theorem dX1_move_95 : decode cX1_move 95 = .ok (.aload_n 0, 1) := by decide +kernel
theorem dX1_move_96 : decode cX1_move 96 = .ok (.getfield 18, 3) := by decide +kernel
theorem dX1_move_99 : decode cX1_move 99 = .ok (.iload_n 1, 1) := by decide +kernel
theorem dX1_move_100 : decode cX1_move 100 = .ok (.iaload, 1) := by decide +kernel
theorem dX1_move_101 : decode cX1_move 101 = .ok (.goto 9, 3) := by decide +kernel
theorem dX1_move_104 : decode cX1_move 104 = .ok (.aload_n 0, 1) := by decide +kernel
theorem dX1_move_105 : decode cX1_move 105 = .ok (.getfield 22, 3) := by decide +kernel
theorem dX1_move_108 : decode cX1_move 108 = .ok (.iload_n 1, 1) := by decide +kernel
theorem dX1_move_109 : decode cX1_move 109 = .ok (.iaload, 1) := by decide +kernel
theorem dX1_move_110 : decode cX1_move 110 = .ok (.iload 4, 2) := by decide +kernel
theorem dX1_move_112 : decode cX1_move 112 = .ok (.invokestatic 73, 3) := by decide +kernel
theorem dX1_move_115 : decode cX1_move 115 = .ok (.iastore, 1) := by decide +kernel
theorem dX1_move_116 : decode cX1_move 116 = .ok (.iinc 1 1, 3) := by decide +kernel
theorem dX1_move_119 : decode cX1_move 119 = .ok (.goto (-117), 3) := by decide +kernel
theorem dX1_move_122 : decode cX1_move 122 = .ok (.return_, 1) := by decide +kernel
theorem dX1_rows_0 : decode cX1_rows 0 = .ok (.iconst 0, 1) := by decide +kernel
theorem dX1_rows_1 : decode cX1_rows 1 = .ok (.istore_n 1, 1) := by decide +kernel
theorem dX1_rows_2 : decode cX1_rows 2 = .ok (.iload_n 1, 1) := by decide +kernel
theorem dX1_rows_3 : decode cX1_rows 3 = .ok (.bipush 25, 2) := by decide +kernel
theorem dX1_rows_5 : decode cX1_rows 5 = .ok (.if_icmp .ge 94, 3) := by decide +kernel
theorem dX1_rows_8 : decode cX1_rows 8 = .ok (.iload_n 1, 1) := by decide +kernel
theorem dX1_rows_9 : decode cX1_rows 9 = .ok (.iload_n 1, 1) := by decide +kernel
theorem dX1_rows_10 : decode cX1_rows 10 = .ok (.iconst 5, 1) := by decide +kernel
theorem dX1_rows_11 : decode cX1_rows 11 = .ok (.irem, 1) := by decide +kernel
theorem dX1_rows_12 : decode cX1_rows 12 = .ok (.isub, 1) := by decide +kernel
theorem dX1_rows_13 : decode cX1_rows 13 = .ok (.istore_n 2, 1) := by decide +kernel
theorem dX1_rows_14 : decode cX1_rows 14 = .ok (.iload_n 2, 1) := by decide +kernel
theorem dX1_rows_15 : decode cX1_rows 15 = .ok (.iload_n 1, 1) := by decide +kernel
theorem dX1_rows_16 : decode cX1_rows 16 = .ok (.iconst 1, 1) := by decide +kernel
theorem dX1_rows_17 : decode cX1_rows 17 = .ok (.iadd, 1) := by decide +kernel
theorem dX1_rows_18 : decode cX1_rows 18 = .ok (.iload_n 2, 1) := by decide +kernel
theorem dX1_rows_19 : decode cX1_rows 19 = .ok (.isub, 1) := by decide +kernel
theorem dX1_rows_20 : decode cX1_rows 20 = .ok (.iconst 5, 1) := by decide +kernel
theorem dX1_rows_21 : decode cX1_rows 21 = .ok (.irem, 1) := by decide +kernel
theorem dX1_rows_22 : decode cX1_rows 22 = .ok (.iadd, 1) := by decide +kernel
theorem dX1_rows_23 : decode cX1_rows 23 = .ok (.istore_n 3, 1) := by decide +kernel
theorem dX1_rows_24 : decode cX1_rows 24 = .ok (.iload_n 2, 1) := by decide +kernel
theorem dX1_rows_25 : decode cX1_rows 25 = .ok (.iload_n 1, 1) := by decide +kernel
theorem dX1_rows_26 : decode cX1_rows 26 = .ok (.iconst 2, 1) := by decide +kernel
theorem dX1_rows_27 : decode cX1_rows 27 = .ok (.iadd, 1) := by decide +kernel
theorem dX1_rows_28 : decode cX1_rows 28 = .ok (.iload_n 2, 1) := by decide +kernel
theorem dX1_rows_29 : decode cX1_rows 29 = .ok (.isub, 1) := by decide +kernel
theorem dX1_rows_30 : decode cX1_rows 30 = .ok (.iconst 5, 1) := by decide +kernel
theorem dX1_rows_31 : decode cX1_rows 31 = .ok (.irem, 1) := by decide +kernel
theorem dX1_rows_32 : decode cX1_rows 32 = .ok (.iadd, 1) := by decide +kernel
theorem dX1_rows_33 : decode cX1_rows 33 = .ok (.istore 4, 2) := by decide +kernel
theorem dX1_rows_35 : decode cX1_rows 35 = .ok (.aload_n 0, 1) := by decide +kernel
theorem dX1_rows_36 : decode cX1_rows 36 = .ok (.getfield 18, 3) := by decide +kernel
theorem dX1_rows_39 : decode cX1_rows 39 = .ok (.iload_n 1, 1) := by decide +kernel
theorem dX1_rows_40 : decode cX1_rows 40 = .ok (.aload_n 0, 1) := by decide +kernel
theorem dX1_rows_41 : decode cX1_rows 41 = .ok (.getfield 25, 3) := by decide +kernel
theorem dX1_rows_44 : decode cX1_rows 44 = .ok (.iload_n 1, 1) := by decide +kernel
theorem dX1_rows_45 : decode cX1_rows 45 = .ok (.iaload, 1) := by decide +kernel
theorem dX1_rows_46 : decode cX1_rows 46 = .ok (.aload_n 0, 1) := by decide +kernel
theorem dX1_rows_47 : decode cX1_rows 47 = .ok (.getfield 25, 3) := by decide +kernel
theorem dX1_rows_50 : decode cX1_rows 50 = .ok (.iload_n 3, 1) := by decide +kernel
theorem dX1_rows_51 : decode cX1_rows 51 = .ok (.iaload, 1) := by decide +kernel
theorem dX1_rows_52 : decode cX1_rows 52 = .ok (.iconst (-1), 1) := by decide +kernel
theorem dX1_rows_53 : decode cX1_rows 53 = .ok (.ixor, 1) := by decide +kernel
theorem dX1_rows_54 : decode cX1_rows 54 = .ok (.aload_n 0, 1) := by decide +kernel
theorem dX1_rows_55 : decode cX1_rows 55 = .ok (.getfield 25, 3) := by decide +kernel
theorem dX1_rows_58 : decode cX1_rows 58 = .ok (.iload 4, 2) := by decide +kernel
theorem dX1_rows_60 : decode cX1_rows 60 = .ok (.iaload, 1) := by decide +kernel
theorem dX1_rows_61 : decode cX1_rows 61 = .ok (.iand, 1) := by decide +kernel
theorem dX1_rows_62 : decode cX1_rows 62 = .ok (.ixor, 1) := by decide +kernel
theorem dX1_rows_63 : decode cX1_rows 63 = .ok (.iastore, 1) := by decide +kernel
theorem dX1_rows_64 : decode cX1_rows 64 = .ok (.aload_n 0, 1) := by decide +kernel
theorem dX1_rows_65 : decode cX1_rows 65 = .ok (.getfield 22, 3) := by decide +kernel
theorem dX1_rows_68 : decode cX1_rows 68 = .ok (.iload_n 1, 1) := by decide +kernel
theorem dX1_rows_69 : decode cX1_rows 69 = .ok (.aload_n 0, 1) := by decide +kernel
theorem dX1_rows_70 : decode cX1_rows 70 = .ok (.getfield 28, 3) := by decide +kernel
theorem dX1_rows_73 : decode cX1_rows 73 = .ok (.iload_n 1, 1) := by decide +kernel
theorem dX1_rows_74 : decode cX1_rows 74 = .ok (.iaload, 1) := by decide +kernel
theorem dX1_rows_75 : decode cX1_rows 75 = .ok (.aload_n 0, 1) := by decide +kernel
theorem dX1_rows_76 : decode cX1_rows 76 = .ok (.getfield 28, 3) := by decide +kernel
theorem dX1_rows_79 : decode cX1_rows 79 = .ok (.iload_n 3, 1) := by decide +kernel
theorem dX1_rows_80 : decode cX1_rows 80 = .ok (.iaload, 1) := by decide +kernel
theorem dX1_rows_81 : decode cX1_rows 81 = .ok (.iconst (-1), 1) := by decide +kernel
theorem dX1_rows_82 : decode cX1_rows 82 = .ok (.ixor, 1) := by decide +kernel
theorem dX1_rows_83 : decode cX1_rows 83 = .ok (.aload_n 0, 1) := by decide +kernel
theorem dX1_rows_84 : decode cX1_rows 84 = .ok (.getfield 28, 3) := by decide +kernel
theorem dX1_rows_87 : decode cX1_rows 87 = .ok (.iload 4, 2) := by decide +kernel
theorem dX1_rows_89 : decode cX1_rows 89 = .ok (.iaload, 1) := by decide +kernel
theorem dX1_rows_90 : decode cX1_rows 90 = .ok (.iand, 1) := by decide +kernel
theorem dX1_rows_91 : decode cX1_rows 91 = .ok (.ixor, 1) := by decide +kernel
theorem dX1_rows_92 : decode cX1_rows 92 = .ok (.iastore, 1) := by decide +kernel
theorem dX1_rows_93 : decode cX1_rows 93 = .ok (.iinc 1 1, 3) := by decide +kernel
theorem dX1_rows_96 : decode cX1_rows 96 = .ok (.goto (-94), 3) := by decide +kernel
theorem dX1_rows_99 : decode cX1_rows 99 = .ok (.return_, 1) := by decide +kernel
theorem dX1_end_0 : decode cX1_end 0 = .ok (.aload_n 0, 1) := by decide +kernel
theorem dX1_end_1 : decode cX1_end 1 = .ok (.aload_n 0, 1) := by decide +kernel
theorem dX1_end_2 : decode cX1_end 2 = .ok (.getfield 41, 3) := by decide +kernel
theorem dX1_end_5 : decode cX1_end 5 = .ok (.iload_n 1, 1) := by decide +kernel
theorem dX1_end_6 : decode cX1_end 6 = .ok (.invokevirtual 48, 3) := by decide +kernel
theorem dX1_end_9 : decode cX1_end 9 = .ok (.aload_n 0, 1) := by decide +kernel
theorem dX1_end_10 : decode cX1_end 10 = .ok (.aload_n 0, 1) := by decide +kernel
theorem dX1_end_11 : decode cX1_end 11 = .ok (.getfield 37, 3) := by decide +kernel
theorem dX1_end_14 : decode cX1_end 14 = .ok (.iconst 1, 1) := by decide +kernel
theorem dX1_end_15 : decode cX1_end 15 = .ok (.isub, 1) := by decide +kernel
theorem dX1_end_16 : decode cX1_end 16 = .ok (.sipush 128, 3) := by decide +kernel
theorem dX1_end_19 : decode cX1_end 19 = .ok (.invokevirtual 48, 3) := by decide +kernel
theorem dX1_end_22 : decode cX1_end 22 = .ok (.aload_n 0, 1) := by decide +kernel
theorem dX1_end_23 : decode cX1_end 23 = .ok (.invokevirtual 52, 3) := by decide +kernel
theorem dX1_end_26 : decode cX1_end 26 = .ok (.aload_n 0, 1) := by decide +kernel
theorem dX1_end_27 : decode cX1_end 27 = .ok (.iconst 0, 1) := by decide +kernel
theorem dX1_end_28 : decode cX1_end 28 = .ok (.putfield 41, 3) := by decide +kernel
theorem dX1_end_31 : decode cX1_end 31 = .ok (.return_, 1) := by decide +kernel
theorem dX1_give_0 : decode cX1_give 0 = .ok (.aload_n 0, 1) := by decide +kernel
theorem dX1_give_1 : decode cX1_give 1 = .ok (.getfield 41, 3) := by decide +kernel
theorem dX1_give_4 : decode cX1_give 4 = .ok (.aload_n 0, 1) := by decide +kernel
theorem dX1_give_5 : decode cX1_give 5 = .ok (.getfield 37, 3) := by decide +kernel
theorem dX1_give_8 : decode cX1_give 8 = .ok (.if_icmp .ne 12, 3) := by decide +kernel
theorem dX1_give_11 : decode cX1_give 11 = .ok (.aload_n 0, 1) := by decide +kernel
theorem dX1_give_12 : decode cX1_give 12 = .ok (.invokevirtual 52, 3) := by decide +kernel
theorem dX1_give_15 : decode cX1_give 15 = .ok (.aload_n 0, 1) := by decide +kernel
theorem dX1_give_16 : decode cX1_give 16 = .ok (.iconst 0, 1) := by decide +kernel
theorem dX1_give_17 : decode cX1_give 17 = .ok (.putfield 41, 3) := by decide +kernel
theorem dX1_give_20 : decode cX1_give 20 = .ok (.aload_n 0, 1) := by decide +kernel
theorem dX1_give_21 : decode cX1_give 21 = .ok (.getfield 41, 3) := by decide +kernel
theorem dX1_give_24 : decode cX1_give 24 = .ok (.bipush 8, 2) := by decide +kernel
theorem dX1_give_26 : decode cX1_give 26 = .ok (.idiv, 1) := by decide +kernel
theorem dX1_give_27 : decode cX1_give 27 = .ok (.istore_n 1, 1) := by decide +kernel
theorem dX1_give_28 : decode cX1_give 28 = .ok (.iconst 4, 1) := by decide +kernel
theorem dX1_give_29 : decode cX1_give 29 = .ok (.aload_n 0, 1) := by decide +kernel
theorem dX1_give_30 : decode cX1_give 30 = .ok (.getfield 41, 3) := by decide +kernel
theorem dX1_give_33 : decode cX1_give 33 = .ok (.bipush 8, 2) := by decide +kernel
theorem dX1_give_35 : decode cX1_give 35 = .ok (.irem, 1) := by decide +kernel
theorem dX1_give_36 : decode cX1_give 36 = .ok (.imul, 1) := by decide +kernel
theorem dX1_give_37 : decode cX1_give 37 = .ok (.istore_n 2, 1) := by decide +kernel
theorem dX1_give_38 : decode cX1_give 38 = .ok (.aload_n 0, 1) := by decide +kernel
theorem dX1_give_39 : decode cX1_give 39 = .ok (.dup, 1) := by decide +kernel
theorem dX1_give_40 : decode cX1_give 40 = .ok (.getfield 41, 3) := by decide +kernel
theorem dX1_give_43 : decode cX1_give 43 = .ok (.iconst 1, 1) := by decide +kernel
theorem dX1_give_44 : decode cX1_give 44 = .ok (.iadd, 1) := by decide +kernel
theorem dX1_give_45 : decode cX1_give 45 = .ok (.putfield 41, 3) := by decide +kernel
theorem dX1_give_48 : decode cX1_give 48 = .ok (.aload_n 0, 1) := by decide +kernel
theorem dX1_give_49 : decode cX1_give 49 = .ok (.getfield 18, 3) := by decide +kernel
theorem dX1_give_52 : decode cX1_give 52 = .ok (.iload_n 1, 1) := by decide +kernel
theorem dX1_give_53 : decode cX1_give 53 = .ok (.iaload, 1) := by decide +kernel
theorem dX1_give_54 : decode cX1_give 54 = .ok (.iload_n 2, 1) := by decide +kernel
theorem dX1_give_55 : decode cX1_give 55 = .ok (.iushr, 1) := by decide +kernel
theorem dX1_give_56 : decode cX1_give 56 = .ok (.bipush 15, 2) := by decide +kernel
theorem dX1_give_58 : decode cX1_give 58 = .ok (.iand, 1) := by decide +kernel
theorem dX1_give_59 : decode cX1_give 59 = .ok (.invokestatic 55, 3) := by decide +kernel
theorem dX1_give_62 : decode cX1_give 62 = .ok (.aload_n 0, 1) := by decide +kernel
theorem dX1_give_63 : decode cX1_give 63 = .ok (.getfield 22, 3) := by decide +kernel
theorem dX1_give_66 : decode cX1_give 66 = .ok (.iload_n 1, 1) := by decide +kernel
theorem dX1_give_67 : decode cX1_give 67 = .ok (.iaload, 1) := by decide +kernel
theorem dX1_give_68 : decode cX1_give 68 = .ok (.iload_n 2, 1) := by decide +kernel
theorem dX1_give_69 : decode cX1_give 69 = .ok (.iushr, 1) := by decide +kernel
theorem dX1_give_70 : decode cX1_give 70 = .ok (.bipush 15, 2) := by decide +kernel
theorem dX1_give_72 : decode cX1_give 72 = .ok (.iand, 1) := by decide +kernel
theorem dX1_give_73 : decode cX1_give 73 = .ok (.invokestatic 55, 3) := by decide +kernel
theorem dX1_give_76 : decode cX1_give 76 = .ok (.iconst 1, 1) := by decide +kernel
theorem dX1_give_77 : decode cX1_give 77 = .ok (.ishl, 1) := by decide +kernel
theorem dX1_give_78 : decode cX1_give 78 = .ok (.ior, 1) := by decide +kernel
theorem dX1_give_79 : decode cX1_give 79 = .ok (.ireturn, 1) := by decide +kernel
theorem dX1_apart_0 : decode cX1_apart 0 = .ok (.iload_n 0, 1) := by decide +kernel
theorem dX1_apart_1 : decode cX1_apart 1 = .ok (.iconst 1, 1) := by decide +kernel
theorem dX1_apart_2 : decode cX1_apart 2 = .ok (.iand, 1) := by decide +kernel
theorem dX1_apart_3 : decode cX1_apart 3 = .ok (.iload_n 0, 1) := by decide +kernel
theorem dX1_apart_4 : decode cX1_apart 4 = .ok (.iconst 2, 1) := by decide +kernel
theorem dX1_apart_5 : decode cX1_apart 5 = .ok (.iand, 1) := by decide +kernel
theorem dX1_apart_6 : decode cX1_apart 6 = .ok (.iconst 1, 1) := by decide +kernel
theorem dX1_apart_7 : decode cX1_apart 7 = .ok (.ishl, 1) := by decide +kernel
theorem dX1_apart_8 : decode cX1_apart 8 = .ok (.ior, 1) := by decide +kernel
theorem dX1_apart_9 : decode cX1_apart 9 = .ok (.iload_n 0, 1) := by decide +kernel
theorem dX1_apart_10 : decode cX1_apart 10 = .ok (.iconst 4, 1) := by decide +kernel
theorem dX1_apart_11 : decode cX1_apart 11 = .ok (.iand, 1) := by decide +kernel
theorem dX1_apart_12 : decode cX1_apart 12 = .ok (.iconst 2, 1) := by decide +kernel
theorem dX1_apart_13 : decode cX1_apart 13 = .ok (.ishl, 1) := by decide +kernel
theorem dX1_apart_14 : decode cX1_apart 14 = .ok (.ior, 1) := by decide +kernel
theorem dX1_apart_15 : decode cX1_apart 15 = .ok (.iload_n 0, 1) := by decide +kernel
theorem dX1_apart_16 : decode cX1_apart 16 = .ok (.bipush 8, 2) := by decide +kernel
theorem dX1_apart_18 : decode cX1_apart 18 = .ok (.iand, 1) := by decide +kernel
theorem dX1_apart_19 : decode cX1_apart 19 = .ok (.iconst 3, 1) := by decide +kernel
theorem dX1_apart_20 : decode cX1_apart 20 = .ok (.ishl, 1) := by decide +kernel
theorem dX1_apart_21 : decode cX1_apart 21 = .ok (.ior, 1) := by decide +kernel
theorem dX1_apart_22 : decode cX1_apart 22 = .ok (.ireturn, 1) := by decide +kernel
end
section
set_option maxRecDepth 100000
theorem dX3_init_0 : decode cX3_init 0 = .ok (.aload_n 0, 1) := by decide +kernel
theorem dX3_init_1 : decode cX3_init 1 = .ok (.invokespecial 1, 3) := by decide +kernel
theorem dX3_init_4 : decode cX3_init 4 = .ok (.aload_n 0, 1) := by decide +kernel
theorem dX3_init_5 : decode cX3_init 5 = .ok (.sipush 4096, 3) := by decide +kernel
theorem dX3_init_8 : decode cX3_init 8 = .ok (.newarray .byte, 2) := by decide +kernel
theorem dX3_init_10 : decode cX3_init 10 = .ok (.putfield 7, 3) := by decide +kernel
theorem dX3_init_13 : decode cX3_init 13 = .ok (.aload_n 0, 1) := by decide +kernel
theorem dX3_init_14 : decode cX3_init 14 = .ok (.sipush 2048, 3) := by decide +kernel
theorem dX3_init_17 : decode cX3_init 17 = .ok (.newarray .byte, 2) := by decide +kernel
theorem dX3_init_19 : decode cX3_init 19 = .ok (.putfield 13, 3) := by decide +kernel
theorem dX3_init_22 : decode cX3_init 22 = .ok (.aload_n 0, 1) := by decide +kernel
theorem dX3_init_23 : decode cX3_init 23 = .ok (.iconst 1, 1) := by decide +kernel
theorem dX3_init_24 : decode cX3_init 24 = .ok (.putfield 16, 3) := by decide +kernel
theorem dX3_init_27 : decode cX3_init 27 = .ok (.aload_n 0, 1) := by decide +kernel
theorem dX3_init_28 : decode cX3_init 28 = .ok (.bipush 25, 2) := by decide +kernel
theorem dX3_init_30 : decode cX3_init 30 = .ok (.newarray .long, 2) := by decide +kernel
theorem dX3_init_32 : decode cX3_init 32 = .ok (.putfield 20, 3) := by decide +kernel
theorem dX3_init_35 : decode cX3_init 35 = .ok (.aload_n 0, 1) := by decide +kernel
theorem dX3_init_36 : decode cX3_init 36 = .ok (.bipush 25, 2) := by decide +kernel
theorem dX3_init_38 : decode cX3_init 38 = .ok (.newarray .long, 2) := by decide +kernel
theorem dX3_init_40 : decode cX3_init 40 = .ok (.putfield 24, 3) := by decide +kernel
theorem dX3_init_43 : decode cX3_init 43 = .ok (.aload_n 0, 1) := by decide +kernel
theorem dX3_init_44 : decode cX3_init 44 = .ok (.iconst 5, 1) := by decide +kernel
theorem dX3_init_45 : decode cX3_init 45 = .ok (.newarray .long, 2) := by decide +kernel
theorem dX3_init_47 : decode cX3_init 47 = .ok (.putfield 27, 3) := by decide +kernel
theorem dX3_init_50 : decode cX3_init 50 = .ok (.aload_n 0, 1) := by decide +kernel
theorem dX3_init_51 : decode cX3_init 51 = .ok (.sipush 256, 3) := by decide +kernel
theorem dX3_init_54 : decode cX3_init 54 = .ok (.newarray .int, 2) := by decide +kernel
theorem dX3_init_56 : decode cX3_init 56 = .ok (.putfield 30, 3) := by decide +kernel
theorem dX3_init_59 : decode cX3_init 59 = .ok (.aload_n 0, 1) := by decide +kernel
theorem dX3_init_60 : decode cX3_init 60 = .ok (.sipush 2304, 3) := by decide +kernel
theorem dX3_init_63 : decode cX3_init 63 = .ok (.newarray .byte, 2) := by decide +kernel
theorem dX3_init_65 : decode cX3_init 65 = .ok (.putfield 34, 3) := by decide +kernel
theorem dX3_init_68 : decode cX3_init 68 = .ok (.return_, 1) := by decide +kernel
theorem dX3_put_0 : decode cX3_put 0 = .ok (.aload_n 0, 1) := by decide +kernel
theorem dX3_put_1 : decode cX3_put 1 = .ok (.getfield 37, 3) := by decide +kernel
theorem dX3_put_4 : decode cX3_put 4 = .ok (.bipush 16, 2) := by decide +kernel
theorem dX3_put_6 : decode cX3_put 6 = .ok (.iadd, 1) := by decide +kernel
theorem dX3_put_7 : decode cX3_put 7 = .ok (.sipush 4096, 3) := by decide +kernel
theorem dX3_put_10 : decode cX3_put 10 = .ok (.if_icmp .le 5, 3) := by decide +kernel
theorem dX3_put_13 : decode cX3_put 13 = .ok (.iconst 0, 1) := by decide +kernel
theorem dX3_put_14 : decode cX3_put 14 = .ok (.ireturn, 1) := by decide +kernel
theorem dX3_put_15 : decode cX3_put 15 = .ok (.iconst 0, 1) := by decide +kernel
theorem dX3_put_16 : decode cX3_put 16 = .ok (.istore 5, 2) := by decide +kernel
theorem dX3_put_18 : decode cX3_put 18 = .ok (.iload 5, 2) := by decide +kernel
theorem dX3_put_20 : decode cX3_put 20 = .ok (.bipush 16, 2) := by decide +kernel
theorem dX3_put_22 : decode cX3_put 22 = .ok (.if_icmp .ge 71, 3) := by decide +kernel
theorem dX3_put_25 : decode cX3_put 25 = .ok (.iload 5, 2) := by decide +kernel
theorem dX3_put_27 : decode cX3_put 27 = .ok (.iconst 4, 1) := by decide +kernel
theorem dX3_put_28 : decode cX3_put 28 = .ok (.if_icmp .ge 7, 3) := by decide +kernel
theorem dX3_put_31 : decode cX3_put 31 = .ok (.iload_n 1, 1) := by decide +kernel
theorem dX3_put_32 : decode cX3_put 32 = .ok (.goto 27, 3) := by decide +kernel
theorem dX3_put_35 : decode cX3_put 35 = .ok (.iload 5, 2) := by decide +kernel
theorem dX3_put_37 : decode cX3_put 37 = .ok (.bipush 8, 2) := by decide +kernel
theorem dX3_put_39 : decode cX3_put 39 = .ok (.if_icmp .ge 7, 3) := by decide +kernel
theorem dX3_put_42 : decode cX3_put 42 = .ok (.iload_n 2, 1) := by decide +kernel
theorem dX3_put_43 : decode cX3_put 43 = .ok (.goto 16, 3) := by decide +kernel
theorem dX3_put_46 : decode cX3_put 46 = .ok (.iload 5, 2) := by decide +kernel
theorem dX3_put_48 : decode cX3_put 48 = .ok (.bipush 12, 2) := by decide +kernel
theorem dX3_put_50 : decode cX3_put 50 = .ok (.if_icmp .ge 7, 3) := by decide +kernel
theorem dX3_put_53 : decode cX3_put 53 = .ok (.iload_n 3, 1) := by decide +kernel
theorem dX3_put_54 : decode cX3_put 54 = .ok (.goto 5, 3) := by decide +kernel
theorem dX3_put_57 : decode cX3_put 57 = .ok (.iload 4, 2) := by decide +kernel
theorem dX3_put_59 : decode cX3_put 59 = .ok (.istore 6, 2) := by decide +kernel
theorem dX3_put_61 : decode cX3_put 61 = .ok (.aload_n 0, 1) := by decide +kernel
theorem dX3_put_62 : decode cX3_put 62 = .ok (.getfield 7, 3) := by decide +kernel
theorem dX3_put_65 : decode cX3_put 65 = .ok (.aload_n 0, 1) := by decide +kernel
theorem dX3_put_66 : decode cX3_put 66 = .ok (.getfield 37, 3) := by decide +kernel
theorem dX3_put_69 : decode cX3_put 69 = .ok (.iload 5, 2) := by decide +kernel
theorem dX3_put_71 : decode cX3_put 71 = .ok (.iadd, 1) := by decide +kernel
theorem dX3_put_72 : decode cX3_put 72 = .ok (.iload 6, 2) := by decide +kernel
theorem dX3_put_74 : decode cX3_put 74 = .ok (.bipush 24, 2) := by decide +kernel
theorem dX3_put_76 : decode cX3_put 76 = .ok (.bipush 8, 2) := by decide +kernel
theorem dX3_put_78 : decode cX3_put 78 = .ok (.iload 5, 2) := by decide +kernel
theorem dX3_put_80 : decode cX3_put 80 = .ok (.iconst 3, 1) := by decide +kernel
theorem dX3_put_81 : decode cX3_put 81 = .ok (.iand, 1) := by decide +kernel
theorem dX3_put_82 : decode cX3_put 82 = .ok (.imul, 1) := by decide +kernel
theorem dX3_put_83 : decode cX3_put 83 = .ok (.isub, 1) := by decide +kernel
theorem dX3_put_84 : decode cX3_put 84 = .ok (.iushr, 1) := by decide +kernel
theorem dX3_put_85 : decode cX3_put 85 = .ok (.i2b, 1) := by decide +kernel
theorem dX3_put_86 : decode cX3_put 86 = .ok (.bastore, 1) := by decide +kernel
theorem dX3_put_87 : decode cX3_put 87 = .ok (.iinc 5 1, 3) := by decide +kernel
theorem dX3_put_90 : decode cX3_put 90 = .ok (.goto (-72), 3) := by decide +kernel
theorem dX3_put_93 : decode cX3_put 93 = .ok (.aload_n 0, 1) := by decide +kernel
theorem dX3_put_94 : decode cX3_put 94 = .ok (.aload_n 0, 1) := by decide +kernel
theorem dX3_put_95 : decode cX3_put 95 = .ok (.getfield 37, 3) := by decide +kernel
theorem dX3_put_98 : decode cX3_put 98 = .ok (.bipush 16, 2) := by decide +kernel
theorem dX3_put_100 : decode cX3_put 100 = .ok (.iadd, 1) := by decide +kernel
theorem dX3_put_101 : decode cX3_put 101 = .ok (.putfield 37, 3) := by decide +kernel
theorem dX3_put_104 : decode cX3_put 104 = .ok (.iconst 1, 1) := by decide +kernel
theorem dX3_put_105 : decode cX3_put 105 = .ok (.ireturn, 1) := by decide +kernel
theorem dX3_trim_0 : decode cX3_trim 0 = .ok (.aload_n 0, 1) := by decide +kernel
theorem dX3_trim_1 : decode cX3_trim 1 = .ok (.aload_n 0, 1) := by decide +kernel
theorem dX3_trim_2 : decode cX3_trim 2 = .ok (.iload_n 1, 1) := by decide +kernel
theorem dX3_trim_3 : decode cX3_trim 3 = .ok (.invokevirtual 41, 3) := by decide +kernel
theorem dX3_trim_6 : decode cX3_trim 6 = .ok (.putfield 37, 3) := by decide +kernel
theorem dX3_trim_9 : decode cX3_trim 9 = .ok (.return_, 1) := by decide +kernel
theorem dX3_first_0 : decode cX3_first 0 = .ok (.iload_n 1, 1) := by decide +kernel
theorem dX3_first_1 : decode cX3_first 1 = .ok (.ldc 45, 2) := by decide +kernel
theorem dX3_first_3 : decode cX3_first 3 = .ok (.iand, 1) := by decide +kernel
theorem dX3_first_4 : decode cX3_first 4 = .ok (.aload_n 0, 1) := by decide +kernel
theorem dX3_first_5 : decode cX3_first 5 = .ok (.getfield 37, 3) := by decide +kernel
theorem dX3_first_8 : decode cX3_first 8 = .ok (.iconst 1, 1) := by decide +kernel
theorem dX3_first_9 : decode cX3_first 9 = .ok (.iadd, 1) := by decide +kernel
theorem dX3_first_10 : decode cX3_first 10 = .ok (.irem, 1) := by decide +kernel
theorem dX3_first_11 : decode cX3_first 11 = .ok (.ireturn, 1) := by decide +kernel
theorem dX3_size_0 : decode cX3_size 0 = .ok (.aload_n 0, 1) := by decide +kernel
theorem dX3_size_1 : decode cX3_size 1 = .ok (.getfield 37, 3) := by decide +kernel
theorem dX3_size_4 : decode cX3_size 4 = .ok (.ireturn, 1) := by decide +kernel
theorem dX3_begin_0 : decode cX3_begin 0 = .ok (.aload_n 0, 1) := by decide +kernel
theorem dX3_begin_1 : decode cX3_begin 1 = .ok (.iload_n 1, 1) := by decide +kernel
theorem dX3_begin_2 : decode cX3_begin 2 = .ok (.ldc 45, 2) := by decide +kernel
theorem dX3_begin_4 : decode cX3_begin 4 = .ok (.iand, 1) := by decide +kernel
theorem dX3_begin_5 : decode cX3_begin 5 = .ok (.bipush 6, 2) := by decide +kernel
theorem dX3_begin_7 : decode cX3_begin 7 = .ok (.irem, 1) := by decide +kernel
theorem dX3_begin_8 : decode cX3_begin 8 = .ok (.putfield 46, 3) := by decide +kernel
theorem dX3_begin_11 : decode cX3_begin 11 = .ok (.aload_n 0, 1) := by decide +kernel
theorem dX3_begin_12 : decode cX3_begin 12 = .ok (.iconst 0, 1) := by decide +kernel
theorem dX3_begin_13 : decode cX3_begin 13 = .ok (.putfield 59, 3) := by decide +kernel
theorem dX3_begin_16 : decode cX3_begin 16 = .ok (.aload_n 0, 1) := by decide +kernel
theorem dX3_begin_17 : decode cX3_begin 17 = .ok (.iconst 0, 1) := by decide +kernel
theorem dX3_begin_18 : decode cX3_begin 18 = .ok (.putfield 62, 3) := by decide +kernel
theorem dX3_begin_21 : decode cX3_begin 21 = .ok (.aload_n 0, 1) := by decide +kernel
theorem dX3_begin_22 : decode cX3_begin 22 = .ok (.iconst 1, 1) := by decide +kernel
theorem dX3_begin_23 : decode cX3_begin 23 = .ok (.putfield 16, 3) := by decide +kernel
theorem dX3_begin_26 : decode cX3_begin 26 = .ok (.aload_n 0, 1) := by decide +kernel
theorem dX3_begin_27 : decode cX3_begin 27 = .ok (.iconst 0, 1) := by decide +kernel
theorem dX3_begin_28 : decode cX3_begin 28 = .ok (.putfield 65, 3) := by decide +kernel
theorem dX3_begin_31 : decode cX3_begin 31 = .ok (.return_, 1) := by decide +kernel
theorem dX3_feed_0 : decode cX3_feed 0 = .ok (.aload_n 0, 1) := by decide +kernel
theorem dX3_feed_1 : decode cX3_feed 1 = .ok (.iload_n 1, 1) := by decide +kernel
theorem dX3_feed_2 : decode cX3_feed 2 = .ok (.invokevirtual 41, 3) := by decide +kernel
theorem dX3_feed_5 : decode cX3_feed 5 = .ok (.istore_n 3, 1) := by decide +kernel
theorem dX3_feed_6 : decode cX3_feed 6 = .ok (.aload_n 0, 1) := by decide +kernel
theorem dX3_feed_7 : decode cX3_feed 7 = .ok (.iload_n 3, 1) := by decide +kernel
theorem dX3_feed_8 : decode cX3_feed 8 = .ok (.iload_n 2, 1) := by decide +kernel
theorem dX3_feed_9 : decode cX3_feed 9 = .ok (.invokevirtual 68, 3) := by decide +kernel
theorem dX3_feed_12 : decode cX3_feed 12 = .ok (.istore 4, 2) := by decide +kernel
theorem dX3_feed_14 : decode cX3_feed 14 = .ok (.aload_n 0, 1) := by decide +kernel
theorem dX3_feed_15 : decode cX3_feed 15 = .ok (.getfield 16, 3) := by decide +kernel
theorem dX3_feed_18 : decode cX3_feed 18 = .ok (.ifCond .eq 16, 3) := by decide +kernel
theorem dX3_feed_21 : decode cX3_feed 21 = .ok (.aload_n 0, 1) := by decide +kernel
theorem dX3_feed_22 : decode cX3_feed 22 = .ok (.getfield 59, 3) := by decide +kernel
theorem dX3_feed_25 : decode cX3_feed 25 = .ok (.iload 4, 2) := by decide +kernel
theorem dX3_feed_27 : decode cX3_feed 27 = .ok (.iadd, 1) := by decide +kernel
theorem dX3_feed_28 : decode cX3_feed 28 = .ok (.sipush 2048, 3) := by decide +kernel
theorem dX3_feed_31 : decode cX3_feed 31 = .ok (.if_icmp .le 5, 3) := by decide +kernel
theorem dX3_feed_34 : decode cX3_feed 34 = .ok (.iconst 0, 1) := by decide +kernel
theorem dX3_feed_35 : decode cX3_feed 35 = .ok (.ireturn, 1) := by decide +kernel
theorem dX3_feed_36 : decode cX3_feed 36 = .ok (.iconst 0, 1) := by decide +kernel
theorem dX3_feed_37 : decode cX3_feed 37 = .ok (.istore 5, 2) := by decide +kernel
theorem dX3_feed_39 : decode cX3_feed 39 = .ok (.iload 5, 2) := by decide +kernel
theorem dX3_feed_41 : decode cX3_feed 41 = .ok (.iload 4, 2) := by decide +kernel
theorem dX3_feed_43 : decode cX3_feed 43 = .ok (.if_icmp .ge 30, 3) := by decide +kernel
theorem dX3_feed_46 : decode cX3_feed 46 = .ok (.aload_n 0, 1) := by decide +kernel
theorem dX3_feed_47 : decode cX3_feed 47 = .ok (.getfield 13, 3) := by decide +kernel
theorem dX3_feed_50 : decode cX3_feed 50 = .ok (.aload_n 0, 1) := by decide +kernel
theorem dX3_feed_51 : decode cX3_feed 51 = .ok (.getfield 59, 3) := by decide +kernel
theorem dX3_feed_54 : decode cX3_feed 54 = .ok (.iload 5, 2) := by decide +kernel
theorem dX3_feed_56 : decode cX3_feed 56 = .ok (.iadd, 1) := by decide +kernel
theorem dX3_feed_57 : decode cX3_feed 57 = .ok (.aload_n 0, 1) := by decide +kernel
theorem dX3_feed_58 : decode cX3_feed 58 = .ok (.getfield 7, 3) := by decide +kernel
theorem dX3_feed_61 : decode cX3_feed 61 = .ok (.iload_n 3, 1) := by decide +kernel
theorem dX3_feed_62 : decode cX3_feed 62 = .ok (.iload 5, 2) := by decide +kernel
theorem dX3_feed_64 : decode cX3_feed 64 = .ok (.iadd, 1) := by decide +kernel
theorem dX3_feed_65 : decode cX3_feed 65 = .ok (.baload, 1) := by decide +kernel
theorem dX3_feed_66 : decode cX3_feed 66 = .ok (.bastore, 1) := by decide +kernel
theorem dX3_feed_67 : decode cX3_feed 67 = .ok (.iinc 5 1, 3) := by decide +kernel
theorem dX3_feed_70 : decode cX3_feed 70 = .ok (.goto (-31), 3) := by decide +kernel
theorem dX3_feed_73 : decode cX3_feed 73 = .ok (.aload_n 0, 1) := by decide +kernel
theorem dX3_feed_74 : decode cX3_feed 74 = .ok (.aload_n 0, 1) := by decide +kernel
theorem dX3_feed_75 : decode cX3_feed 75 = .ok (.getfield 59, 3) := by decide +kernel
theorem dX3_feed_78 : decode cX3_feed 78 = .ok (.iload 4, 2) := by decide +kernel
theorem dX3_feed_80 : decode cX3_feed 80 = .ok (.iadd, 1) := by decide +kernel
theorem dX3_feed_81 : decode cX3_feed 81 = .ok (.putfield 59, 3) := by decide +kernel
theorem dX3_feed_84 : decode cX3_feed 84 = .ok (.iconst 1, 1) := by decide +kernel
theorem dX3_feed_85 : decode cX3_feed 85 = .ok (.ireturn, 1) := by decide +kernel
theorem dX3_many_0 : decode cX3_many 0 = .ok (.iload_n 2, 1) := by decide +kernel
theorem dX3_many_1 : decode cX3_many 1 = .ok (.ldc 45, 2) := by decide +kernel
theorem dX3_many_3 : decode cX3_many 3 = .ok (.iand, 1) := by decide +kernel
theorem dX3_many_4 : decode cX3_many 4 = .ok (.aload_n 0, 1) := by decide +kernel
theorem dX3_many_5 : decode cX3_many 5 = .ok (.getfield 37, 3) := by decide +kernel
theorem dX3_many_8 : decode cX3_many 8 = .ok (.iload_n 1, 1) := by decide +kernel
theorem dX3_many_9 : decode cX3_many 9 = .ok (.isub, 1) := by decide +kernel
theorem dX3_many_10 : decode cX3_many 10 = .ok (.iconst 1, 1) := by decide +kernel
theorem dX3_many_11 : decode cX3_many 11 = .ok (.iadd, 1) := by decide +kernel
theorem dX3_many_12 : decode cX3_many 12 = .ok (.irem, 1) := by decide +kernel
theorem dX3_many_13 : decode cX3_many 13 = .ok (.ireturn, 1) := by decide +kernel
theorem dX3_close_0 : decode cX3_close 0 = .ok (.aload_n 0, 1) := by decide +kernel
theorem dX3_close_1 : decode cX3_close 1 = .ok (.getfield 46, 3) := by decide +kernel
theorem dX3_close_4 : decode cX3_close 4 = .ok (.ifCond .ne 8, 3) := by decide +kernel
theorem dX3_close_7 : decode cX3_close 7 = .ok (.bipush 28, 2) := by decide +kernel
theorem dX3_close_9 : decode cX3_close 9 = .ok (.goto 47, 3) := by decide +kernel
theorem dX3_close_12 : decode cX3_close 12 = .ok (.aload_n 0, 1) := by decide +kernel
theorem dX3_close_13 : decode cX3_close 13 = .ok (.getfield 46, 3) := by decide +kernel
theorem dX3_close_16 : decode cX3_close 16 = .ok (.iconst 1, 1) := by decide +kernel
theorem dX3_close_17 : decode cX3_close 17 = .ok (.if_icmp .ne 8, 3) := by decide +kernel
theorem dX3_close_20 : decode cX3_close 20 = .ok (.bipush 32, 2) := by decide +kernel
theorem dX3_close_22 : decode cX3_close 22 = .ok (.goto 34, 3) := by decide +kernel
theorem dX3_close_25 : decode cX3_close 25 = .ok (.aload_n 0, 1) := by decide +kernel
theorem dX3_close_26 : decode cX3_close 26 = .ok (.getfield 46, 3) := by decide +kernel
theorem dX3_close_29 : decode cX3_close 29 = .ok (.iconst 2, 1) := by decide +kernel
theorem dX3_close_30 : decode cX3_close 30 = .ok (.if_icmp .ne 8, 3) := by decide +kernel
theorem dX3_close_33 : decode cX3_close 33 = .ok (.bipush 48, 2) := by decide +kernel
theorem dX3_close_35 : decode cX3_close 35 = .ok (.goto 21, 3) := by decide +kernel
theorem dX3_close_38 : decode cX3_close 38 = .ok (.aload_n 0, 1) := by decide +kernel
theorem dX3_close_39 : decode cX3_close 39 = .ok (.getfield 46, 3) := by decide +kernel
theorem dX3_close_42 : decode cX3_close 42 = .ok (.iconst 3, 1) := by decide +kernel
theorem dX3_close_43 : decode cX3_close 43 = .ok (.if_icmp .ne 8, 3) := by decide +kernel
theorem dX3_close_46 : decode cX3_close 46 = .ok (.bipush 64, 2) := by decide +kernel
theorem dX3_close_48 : decode cX3_close 48 = .ok (.goto 8, 3) := by decide +kernel
theorem dX3_close_51 : decode cX3_close 51 = .ok (.iload_n 1, 1) := by decide +kernel
theorem dX3_close_52 : decode cX3_close 52 = .ok (.sipush 255, 3) := by decide +kernel
theorem dX3_close_55 : decode cX3_close 55 = .ok (.iand, 1) := by decide +kernel
theorem dX3_close_56 : decode cX3_close 56 = .ok (.istore_n 2, 1) := by decide +kernel
theorem dX3_close_57 : decode cX3_close 57 = .ok (.aload_n 0, 1) := by decide +kernel
theorem dX3_close_58 : decode cX3_close 58 = .ok (.getfield 46, 3) := by decide +kernel
theorem dX3_close_61 : decode cX3_close 61 = .ok (.iconst 4, 1) := by decide +kernel
theorem dX3_close_62 : decode cX3_close 62 = .ok (.if_icmp .ge 10, 3) := by decide +kernel
theorem dX3_close_65 : decode cX3_close 65 = .ok (.aload_n 0, 1) := by decide +kernel
theorem dX3_close_66 : decode cX3_close 66 = .ok (.getfield 16, 3) := by decide +kernel
theorem dX3_close_69 : decode cX3_close 69 = .ok (.ifCond .eq 23, 3) := by decide +kernel
theorem dX3_close_72 : decode cX3_close 72 = .ok (.aload_n 0, 1) := by decide +kernel
theorem dX3_close_73 : decode cX3_close 73 = .ok (.getfield 46, 3) := by decide +kernel
theorem dX3_close_76 : decode cX3_close 76 = .ok (.iconst 3, 1) := by decide +kernel
theorem dX3_close_77 : decode cX3_close 77 = .ok (.if_icmp .le 17, 3) := by decide +kernel
theorem dX3_close_80 : decode cX3_close 80 = .ok (.aload_n 0, 1) := by decide +kernel
theorem dX3_close_81 : decode cX3_close 81 = .ok (.getfield 62, 3) := by decide +kernel
theorem dX3_close_84 : decode cX3_close 84 = .ok (.iload_n 2, 1) := by decide +kernel
theorem dX3_close_85 : decode cX3_close 85 = .ok (.iadd, 1) := by decide +kernel
theorem dX3_close_86 : decode cX3_close 86 = .ok (.sipush 4096, 3) := by decide +kernel
theorem dX3_close_89 : decode cX3_close 89 = .ok (.if_icmp .le 5, 3) := by decide +kernel
theorem dX3_close_92 : decode cX3_close 92 = .ok (.iconst (-1), 1) := by decide +kernel
theorem dX3_close_93 : decode cX3_close 93 = .ok (.ireturn, 1) := by decide +kernel
theorem dX3_close_94 : decode cX3_close 94 = .ok (.aload_n 0, 1) := by decide +kernel
theorem dX3_close_95 : decode cX3_close 95 = .ok (.iconst 0, 1) := by decide +kernel
theorem dX3_close_96 : decode cX3_close 96 = .ok (.putfield 16, 3) := by decide +kernel
theorem dX3_close_99 : decode cX3_close 99 = .ok (.aload_n 0, 1) := by decide +kernel
theorem dX3_close_100 : decode cX3_close 100 = .ok (.aload_n 0, 1) := by decide +kernel
theorem dX3_close_101 : decode cX3_close 101 = .ok (.getfield 62, 3) := by decide +kernel
theorem dX3_close_104 : decode cX3_close 104 = .ok (.iload_n 2, 1) := by decide +kernel
theorem dX3_close_105 : decode cX3_close 105 = .ok (.invokevirtual 78, 3) := by decide +kernel
theorem dX3_close_108 : decode cX3_close 108 = .ok (.aload_n 0, 1) := by decide +kernel
theorem dX3_close_109 : decode cX3_close 109 = .ok (.aload_n 0, 1) := by decide +kernel
theorem dX3_close_110 : decode cX3_close 110 = .ok (.getfield 62, 3) := by decide +kernel
theorem dX3_close_113 : decode cX3_close 113 = .ok (.iload_n 2, 1) := by decide +kernel
theorem dX3_close_114 : decode cX3_close 114 = .ok (.iadd, 1) := by decide +kernel
theorem dX3_close_115 : decode cX3_close 115 = .ok (.putfield 62, 3) := by decide +kernel
theorem dX3_close_118 : decode cX3_close 118 = .ok (.aload_n 0, 1) := by decide +kernel
theorem dX3_close_119 : decode cX3_close 119 = .ok (.iload_n 2, 1) := by decide +kernel
theorem dX3_close_120 : decode cX3_close 120 = .ok (.putfield 65, 3) := by decide +kernel
theorem dX3_close_123 : decode cX3_close 123 = .ok (.iload_n 2, 1) := by decide +kernel
theorem dX3_close_124 : decode cX3_close 124 = .ok (.ireturn, 1) := by decide +kernel
theorem dX3_show_0 : decode cX3_show 0 = .ok (.aload_n 0, 1) := by decide +kernel
theorem dX3_show_1 : decode cX3_show 1 = .ok (.invokevirtual 71, 3) := by decide +kernel
theorem dX3_show_4 : decode cX3_show 4 = .ok (.istore_n 3, 1) := by decide +kernel
theorem dX3_show_5 : decode cX3_show 5 = .ok (.aload_n 0, 1) := by decide +kernel
theorem dX3_show_6 : decode cX3_show 6 = .ok (.getfield 59, 3) := by decide +kernel
theorem dX3_show_9 : decode cX3_show 9 = .ok (.iload_n 3, 1) := by decide +kernel
theorem dX3_show_10 : decode cX3_show 10 = .ok (.idiv, 1) := by decide +kernel
theorem dX3_show_11 : decode cX3_show 11 = .ok (.iconst 1, 1) := by decide +kernel
theorem dX3_show_12 : decode cX3_show 12 = .ok (.iadd, 1) := by decide +kernel
theorem dX3_show_13 : decode cX3_show 13 = .ok (.iload_n 3, 1) := by decide +kernel
theorem dX3_show_14 : decode cX3_show 14 = .ok (.imul, 1) := by decide +kernel
theorem dX3_show_15 : decode cX3_show 15 = .ok (.istore 4, 2) := by decide +kernel
theorem dX3_show_17 : decode cX3_show 17 = .ok (.iconst 0, 1) := by decide +kernel
theorem dX3_show_18 : decode cX3_show 18 = .ok (.istore 5, 2) := by decide +kernel
theorem dX3_show_20 : decode cX3_show 20 = .ok (.iload 5, 2) := by decide +kernel
theorem dX3_show_22 : decode cX3_show 22 = .ok (.iload 4, 2) := by decide +kernel
theorem dX3_show_24 : decode cX3_show 24 = .ok (.if_icmp .ge 36, 3) := by decide +kernel
theorem dX3_show_27 : decode cX3_show 27 = .ok (.aload_n 0, 1) := by decide +kernel
theorem dX3_show_28 : decode cX3_show 28 = .ok (.getfield 34, 3) := by decide +kernel
theorem dX3_show_31 : decode cX3_show 31 = .ok (.iload 5, 2) := by decide +kernel
theorem dX3_show_33 : decode cX3_show 33 = .ok (.iload 5, 2) := by decide +kernel
theorem dX3_show_35 : decode cX3_show 35 = .ok (.aload_n 0, 1) := by decide +kernel
theorem dX3_show_36 : decode cX3_show 36 = .ok (.getfield 59, 3) := by decide +kernel
theorem dX3_show_39 : decode cX3_show 39 = .ok (.if_icmp .ge 13, 3) := by decide +kernel
theorem dX3_show_42 : decode cX3_show 42 = .ok (.aload_n 0, 1) := by decide +kernel
theorem dX3_show_43 : decode cX3_show 43 = .ok (.getfield 13, 3) := by decide +kernel
theorem dX3_show_46 : decode cX3_show 46 = .ok (.iload 5, 2) := by decide +kernel
theorem dX3_show_48 : decode cX3_show 48 = .ok (.baload, 1) := by decide +kernel
theorem dX3_show_49 : decode cX3_show 49 = .ok (.goto 4, 3) := by decide +kernel
theorem dX3_show_52 : decode cX3_show 52 = .ok (.iconst 0, 1) := by decide +kernel
theorem dX3_show_53 : decode cX3_show 53 = .ok (.bastore, 1) := by decide +kernel
theorem dX3_show_54 : decode cX3_show 54 = .ok (.iinc 5 1, 3) := by decide +kernel
theorem dX3_show_57 : decode cX3_show 57 = .ok (.goto (-37), 3) := by decide +kernel
theorem dX3_show_60 : decode cX3_show 60 = .ok (.aload_n 0, 1) := by decide +kernel
theorem dX3_show_61 : decode cX3_show 61 = .ok (.getfield 34, 3) := by decide +kernel
theorem dX3_show_64 : decode cX3_show 64 = .ok (.aload_n 0, 1) := by decide +kernel
theorem dX3_show_65 : decode cX3_show 65 = .ok (.getfield 59, 3) := by decide +kernel
theorem dX3_show_68 : decode cX3_show 68 = .ok (.aload_n 0, 1) := by decide +kernel
theorem dX3_show_69 : decode cX3_show 69 = .ok (.getfield 46, 3) := by decide +kernel
theorem dX3_show_72 : decode cX3_show 72 = .ok (.iconst 4, 1) := by decide +kernel
theorem dX3_show_73 : decode cX3_show 73 = .ok (.if_icmp .ge 8, 3) := by decide +kernel
theorem dX3_show_76 : decode cX3_show 76 = .ok (.bipush 6, 2) := by decide +kernel
theorem dX3_show_78 : decode cX3_show 78 = .ok (.goto 5, 3) := by decide +kernel
theorem dX3_show_81 : decode cX3_show 81 = .ok (.bipush 31, 2) := by decide +kernel
theorem dX3_show_83 : decode cX3_show 83 = .ok (.i2b, 1) := by decide +kernel
theorem dX3_show_84 : decode cX3_show 84 = .ok (.bastore, 1) := by decide +kernel
theorem dX3_show_85 : decode cX3_show 85 = .ok (.aload_n 0, 1) := by decide +kernel
theorem dX3_show_86 : decode cX3_show 86 = .ok (.getfield 34, 3) := by decide +kernel
theorem dX3_show_89 : decode cX3_show 89 = .ok (.iload 4, 2) := by decide +kernel
theorem dX3_show_91 : decode cX3_show 91 = .ok (.iconst 1, 1) := by decide +kernel
theorem dX3_show_92 : decode cX3_show 92 = .ok (.isub, 1) := by decide +kernel
theorem dX3_show_93 : decode cX3_show 93 = .ok (.aload_n 0, 1) := by decide +kernel
theorem dX3_show_94 : decode cX3_show 94 = .ok (.getfield 34, 3) := by decide +kernel
theorem dX3_show_97 : decode cX3_show 97 = .ok (.iload 4, 2) := by decide +kernel
theorem dX3_show_99 : decode cX3_show 99 = .ok (.iconst 1, 1) := by decide +kernel
theorem dX3_show_100 : decode cX3_show 100 = .ok (.isub, 1) := by decide +kernel
theorem dX3_show_101 : decode cX3_show 101 = .ok (.baload, 1) := by decide +kernel
theorem dX3_show_102 : decode cX3_show 102 = .ok (.sipush 128, 3) := by decide +kernel
theorem dX3_show_105 : decode cX3_show 105 = .ok (.ixor, 1) := by decide +kernel
theorem dX3_show_106 : decode cX3_show 106 = .ok (.i2b, 1) := by decide +kernel
theorem dX3_show_107 : decode cX3_show 107 = .ok (.bastore, 1) := by decide +kernel
theorem dX3_show_108 : decode cX3_show 108 = .ok (.iconst 0, 1) := by decide +kernel
theorem dX3_show_109 : decode cX3_show 109 = .ok (.istore 5, 2) := by decide +kernel
theorem dX3_show_111 : decode cX3_show 111 = .ok (.iload 5, 2) := by decide +kernel
theorem dX3_show_113 : decode cX3_show 113 = .ok (.bipush 25, 2) := by decide +kernel
theorem dX3_show_115 : decode cX3_show 115 = .ok (.if_icmp .ge 17, 3) := by decide +kernel
theorem dX3_show_118 : decode cX3_show 118 = .ok (.aload_n 0, 1) := by decide +kernel
theorem dX3_show_119 : decode cX3_show 119 = .ok (.getfield 20, 3) := by decide +kernel
theorem dX3_show_122 : decode cX3_show 122 = .ok (.iload 5, 2) := by decide +kernel
theorem dX3_show_124 : decode cX3_show 124 = .ok (.lconst 0, 1) := by decide +kernel
theorem dX3_show_125 : decode cX3_show 125 = .ok (.lastore, 1) := by decide +kernel
theorem dX3_show_126 : decode cX3_show 126 = .ok (.iinc 5 1, 3) := by decide +kernel
theorem dX3_show_129 : decode cX3_show 129 = .ok (.goto (-18), 3) := by decide +kernel
theorem dX3_show_132 : decode cX3_show 132 = .ok (.iconst 0, 1) := by decide +kernel
theorem dX3_show_133 : decode cX3_show 133 = .ok (.istore 5, 2) := by decide +kernel
theorem dX3_show_135 : decode cX3_show 135 = .ok (.iload 5, 2) := by decide +kernel
theorem dX3_show_137 : decode cX3_show 137 = .ok (.iload 4, 2) := by decide +kernel
theorem dX3_show_139 : decode cX3_show 139 = .ok (.if_icmp .ge 76, 3) := by decide +kernel
theorem dX3_show_142 : decode cX3_show 142 = .ok (.iconst 0, 1) := by decide +kernel
theorem dX3_show_143 : decode cX3_show 143 = .ok (.istore 6, 2) := by decide +kernel
theorem dX3_show_145 : decode cX3_show 145 = .ok (.iload 6, 2) := by decide +kernel
theorem dX3_show_147 : decode cX3_show 147 = .ok (.iload_n 3, 1) := by decide +kernel
theorem dX3_show_148 : decode cX3_show 148 = .ok (.if_icmp .ge 54, 3) := by decide +kernel
theorem dX3_show_151 : decode cX3_show 151 = .ok (.aload_n 0, 1) := by decide +kernel
theorem dX3_show_152 : decode cX3_show 152 = .ok (.getfield 20, 3) := by decide +kernel
theorem dX3_show_155 : decode cX3_show 155 = .ok (.iload 6, 2) := by decide +kernel
theorem dX3_show_157 : decode cX3_show 157 = .ok (.bipush 8, 2) := by decide +kernel
theorem dX3_show_159 : decode cX3_show 159 = .ok (.idiv, 1) := by decide +kernel
theorem dX3_show_160 : decode cX3_show 160 = .ok (.aload_n 0, 1) := by decide +kernel
theorem dX3_show_161 : decode cX3_show 161 = .ok (.getfield 20, 3) := by decide +kernel
theorem dX3_show_164 : decode cX3_show 164 = .ok (.iload 6, 2) := by decide +kernel
theorem dX3_show_166 : decode cX3_show 166 = .ok (.bipush 8, 2) := by decide +kernel
theorem dX3_show_168 : decode cX3_show 168 = .ok (.idiv, 1) := by decide +kernel
theorem dX3_show_169 : decode cX3_show 169 = .ok (.laload, 1) := by decide +kernel
theorem dX3_show_170 : decode cX3_show 170 = .ok (.aload_n 0, 1) := by decide +kernel
theorem dX3_show_171 : decode cX3_show 171 = .ok (.getfield 34, 3) := by decide +kernel
theorem dX3_show_174 : decode cX3_show 174 = .ok (.iload 5, 2) := by decide +kernel
theorem dX3_show_176 : decode cX3_show 176 = .ok (.iload 6, 2) := by decide +kernel
theorem dX3_show_178 : decode cX3_show 178 = .ok (.iadd, 1) := by decide +kernel
theorem dX3_show_179 : decode cX3_show 179 = .ok (.baload, 1) := by decide +kernel
theorem dX3_show_180 : decode cX3_show 180 = .ok (.sipush 255, 3) := by decide +kernel
theorem dX3_show_183 : decode cX3_show 183 = .ok (.iand, 1) := by decide +kernel
theorem dX3_show_184 : decode cX3_show 184 = .ok (.i2l, 1) := by decide +kernel
theorem dX3_show_185 : decode cX3_show 185 = .ok (.bipush 8, 2) := by decide +kernel
theorem dX3_show_187 : decode cX3_show 187 = .ok (.iload 6, 2) := by decide +kernel
theorem dX3_show_189 : decode cX3_show 189 = .ok (.bipush 8, 2) := by decide +kernel
theorem dX3_show_191 : decode cX3_show 191 = .ok (.irem, 1) := by decide +kernel
theorem dX3_show_192 : decode cX3_show 192 = .ok (.imul, 1) := by decide +kernel
theorem dX3_show_193 : decode cX3_show 193 = .ok (.lshl, 1) := by decide +kernel
theorem dX3_show_194 : decode cX3_show 194 = .ok (.lxor, 1) := by decide +kernel
theorem dX3_show_195 : decode cX3_show 195 = .ok (.lastore, 1) := by decide +kernel
theorem dX3_show_196 : decode cX3_show 196 = .ok (.iinc 6 1, 3) := by decide +kernel
theorem dX3_show_199 : decode cX3_show 199 = .ok (.goto (-54), 3) := by decide +kernel
theorem dX3_show_202 : decode cX3_show 202 = .ok (.aload_n 0, 1) := by decide +kernel
theorem dX3_show_203 : decode cX3_show 203 = .ok (.invokevirtual 75, 3) := by decide +kernel
theorem dX3_show_206 : decode cX3_show 206 = .ok (.iload 5, 2) := by decide +kernel
theorem dX3_show_208 : decode cX3_show 208 = .ok (.iload_n 3, 1) := by decide +kernel
theorem dX3_show_209 : decode cX3_show 209 = .ok (.iadd, 1) := by decide +kernel
theorem dX3_show_210 : decode cX3_show 210 = .ok (.istore 5, 2) := by decide +kernel
theorem dX3_show_212 : decode cX3_show 212 = .ok (.goto (-77), 3) := by decide +kernel
theorem dX3_show_215 : decode cX3_show 215 = .ok (.iload_n 1, 1) := by decide +kernel
theorem dX3_show_216 : decode cX3_show 216 = .ok (.iload_n 3, 1) := by decide +kernel
theorem dX3_show_217 : decode cX3_show 217 = .ok (.idiv, 1) := by decide +kernel
theorem dX3_show_218 : decode cX3_show 218 = .ok (.istore 5, 2) := by decide +kernel
theorem dX3_show_220 : decode cX3_show 220 = .ok (.iload 5, 2) := by decide +kernel
theorem dX3_show_222 : decode cX3_show 222 = .ok (.ifCond .le 13, 3) := by decide +kernel
theorem dX3_show_225 : decode cX3_show 225 = .ok (.aload_n 0, 1) := by decide +kernel
theorem dX3_show_226 : decode cX3_show 226 = .ok (.invokevirtual 75, 3) := by decide +kernel
theorem dX3_show_229 : decode cX3_show 229 = .ok (.iinc 5 (-1), 3) := by decide +kernel
theorem dX3_show_232 : decode cX3_show 232 = .ok (.goto (-12), 3) := by decide +kernel
theorem dX3_show_235 : decode cX3_show 235 = .ok (.iload_n 1, 1) := by decide +kernel
theorem dX3_show_236 : decode cX3_show 236 = .ok (.iload_n 3, 1) := by decide +kernel
theorem dX3_show_237 : decode cX3_show 237 = .ok (.irem, 1) := by decide +kernel
theorem dX3_show_238 : decode cX3_show 238 = .ok (.istore 5, 2) := by decide +kernel
theorem dX3_show_240 : decode cX3_show 240 = .ok (.iconst 0, 1) := by decide +kernel
theorem dX3_show_241 : decode cX3_show 241 = .ok (.istore 6, 2) := by decide +kernel
theorem dX3_show_243 : decode cX3_show 243 = .ok (.iload 6, 2) := by decide +kernel
theorem dX3_show_245 : decode cX3_show 245 = .ok (.iload_n 2, 1) := by decide +kernel
theorem dX3_show_246 : decode cX3_show 246 = .ok (.if_icmp .ge 59, 3) := by decide +kernel
theorem dX3_show_249 : decode cX3_show 249 = .ok (.iload 5, 2) := by decide +kernel
theorem dX3_show_251 : decode cX3_show 251 = .ok (.iload_n 3, 1) := by decide +kernel
theorem dX3_show_252 : decode cX3_show 252 = .ok (.if_icmp .ne 10, 3) := by decide +kernel
theorem dX3_show_255 : decode cX3_show 255 = .ok (.aload_n 0, 1) := by decide +kernel
theorem dX3_show_256 : decode cX3_show 256 = .ok (.invokevirtual 75, 3) := by decide +kernel
theorem dX3_show_259 : decode cX3_show 259 = .ok (.iconst 0, 1) := by decide +kernel
theorem dX3_show_260 : decode cX3_show 260 = .ok (.istore 5, 2) := by decide +kernel
theorem dX3_show_262 : decode cX3_show 262 = .ok (.aload_n 0, 1) := by decide +kernel
theorem dX3_show_263 : decode cX3_show 263 = .ok (.getfield 30, 3) := by decide +kernel
theorem dX3_show_266 : decode cX3_show 266 = .ok (.iload 6, 2) := by decide +kernel
theorem dX3_show_268 : decode cX3_show 268 = .ok (.aload_n 0, 1) := by decide +kernel
theorem dX3_show_269 : decode cX3_show 269 = .ok (.getfield 20, 3) := by decide +kernel
theorem dX3_show_272 : decode cX3_show 272 = .ok (.iload 5, 2) := by decide +kernel
theorem dX3_show_274 : decode cX3_show 274 = .ok (.bipush 8, 2) := by decide +kernel
theorem dX3_show_276 : decode cX3_show 276 = .ok (.idiv, 1) := by decide +kernel
theorem dX3_show_277 : decode cX3_show 277 = .ok (.laload, 1) := by decide +kernel
theorem dX3_show_278 : decode cX3_show 278 = .ok (.bipush 8, 2) := by decide +kernel
theorem dX3_show_280 : decode cX3_show 280 = .ok (.iload 5, 2) := by decide +kernel
theorem dX3_show_282 : decode cX3_show 282 = .ok (.bipush 8, 2) := by decide +kernel
theorem dX3_show_284 : decode cX3_show 284 = .ok (.irem, 1) := by decide +kernel
theorem dX3_show_285 : decode cX3_show 285 = .ok (.imul, 1) := by decide +kernel
theorem dX3_show_286 : decode cX3_show 286 = .ok (.lushr, 1) := by decide +kernel
theorem dX3_show_287 : decode cX3_show 287 = .ok (.l2i, 1) := by decide +kernel
theorem dX3_show_288 : decode cX3_show 288 = .ok (.sipush 255, 3) := by decide +kernel
theorem dX3_show_291 : decode cX3_show 291 = .ok (.iand, 1) := by decide +kernel
theorem dX3_show_292 : decode cX3_show 292 = .ok (.iastore, 1) := by decide +kernel
theorem dX3_show_293 : decode cX3_show 293 = .ok (.iload 5, 2) := by decide +kernel
theorem dX3_show_295 : decode cX3_show 295 = .ok (.iconst 1, 1) := by decide +kernel
theorem dX3_show_296 : decode cX3_show 296 = .ok (.iadd, 1) := by decide +kernel
theorem dX3_show_297 : decode cX3_show 297 = .ok (.istore 5, 2) := by decide +kernel
theorem dX3_show_299 : decode cX3_show 299 = .ok (.iinc 6 1, 3) := by decide +kernel
theorem dX3_show_302 : decode cX3_show 302 = .ok (.goto (-59), 3) := by decide +kernel
theorem dX3_show_305 : decode cX3_show 305 = .ok (.return_, 1) := by decide +kernel
theorem dX3_rate_0 : decode cX3_rate 0 = .ok (.aload_n 0, 1) := by decide +kernel
theorem dX3_rate_1 : decode cX3_rate 1 = .ok (.getfield 46, 3) := by decide +kernel
theorem dX3_rate_4 : decode cX3_rate 4 = .ok (.ifCond .ne 9, 3) := by decide +kernel
theorem dX3_rate_7 : decode cX3_rate 7 = .ok (.sipush 144, 3) := by decide +kernel
theorem dX3_rate_10 : decode cX3_rate 10 = .ok (.goto 60, 3) := by decide +kernel
theorem dX3_rate_13 : decode cX3_rate 13 = .ok (.aload_n 0, 1) := by decide +kernel
theorem dX3_rate_14 : decode cX3_rate 14 = .ok (.getfield 46, 3) := by decide +kernel
theorem dX3_rate_17 : decode cX3_rate 17 = .ok (.iconst 1, 1) := by decide +kernel
theorem dX3_rate_18 : decode cX3_rate 18 = .ok (.if_icmp .ne 9, 3) := by decide +kernel
theorem dX3_rate_21 : decode cX3_rate 21 = .ok (.sipush 136, 3) := by decide +kernel
theorem dX3_rate_24 : decode cX3_rate 24 = .ok (.goto 46, 3) := by decide +kernel
theorem dX3_rate_27 : decode cX3_rate 27 = .ok (.aload_n 0, 1) := by decide +kernel
theorem dX3_rate_28 : decode cX3_rate 28 = .ok (.getfield 46, 3) := by decide +kernel
theorem dX3_rate_31 : decode cX3_rate 31 = .ok (.iconst 2, 1) := by decide +kernel
theorem dX3_rate_32 : decode cX3_rate 32 = .ok (.if_icmp .ne 8, 3) := by decide +kernel
theorem dX3_rate_35 : decode cX3_rate 35 = .ok (.bipush 104, 2) := by decide +kernel
theorem dX3_rate_37 : decode cX3_rate 37 = .ok (.goto 33, 3) := by decide +kernel
theorem dX3_rate_40 : decode cX3_rate 40 = .ok (.aload_n 0, 1) := by decide +kernel
theorem dX3_rate_41 : decode cX3_rate 41 = .ok (.getfield 46, 3) := by decide +kernel
theorem dX3_rate_44 : decode cX3_rate 44 = .ok (.iconst 3, 1) := by decide +kernel
theorem dX3_rate_45 : decode cX3_rate 45 = .ok (.if_icmp .ne 8, 3) := by decide +kernel
theorem dX3_rate_48 : decode cX3_rate 48 = .ok (.bipush 72, 2) := by decide +kernel
theorem dX3_rate_50 : decode cX3_rate 50 = .ok (.goto 20, 3) := by decide +kernel
theorem dX3_rate_53 : decode cX3_rate 53 = .ok (.aload_n 0, 1) := by decide +kernel
theorem dX3_rate_54 : decode cX3_rate 54 = .ok (.getfield 46, 3) := by decide +kernel
theorem dX3_rate_57 : decode cX3_rate 57 = .ok (.iconst 4, 1) := by decide +kernel
theorem dX3_rate_58 : decode cX3_rate 58 = .ok (.if_icmp .ne 9, 3) := by decide +kernel
theorem dX3_rate_61 : decode cX3_rate 61 = .ok (.sipush 168, 3) := by decide +kernel
theorem dX3_rate_64 : decode cX3_rate 64 = .ok (.goto 6, 3) := by decide +kernel
theorem dX3_rate_67 : decode cX3_rate 67 = .ok (.sipush 136, 3) := by decide +kernel
theorem dX3_rate_70 : decode cX3_rate 70 = .ok (.ireturn, 1) := by decide +kernel
theorem dX3_mix_0 : decode cX3_mix 0 = .ok (.iconst 1, 1) := by decide +kernel
theorem dX3_mix_1 : decode cX3_mix 1 = .ok (.istore_n 1, 1) := by decide +kernel
theorem dX3_mix_2 : decode cX3_mix 2 = .ok (.iconst 0, 1) := by decide +kernel
theorem dX3_mix_3 : decode cX3_mix 3 = .ok (.istore_n 2, 1) := by decide +kernel
theorem dX3_mix_4 : decode cX3_mix 4 = .ok (.iload_n 2, 1) := by decide +kernel
theorem dX3_mix_5 : decode cX3_mix 5 = .ok (.bipush 24, 2) := by decide +kernel
theorem dX3_mix_7 : decode cX3_mix 7 = .ok (.if_icmp .ge 432, 3) := by decide +kernel
theorem dX3_mix_10 : decode cX3_mix 10 = .ok (.iconst 0, 1) := by decide +kernel
theorem dX3_mix_11 : decode cX3_mix 11 = .ok (.istore_n 3, 1) := by decide +kernel
theorem dX3_mix_12 : decode cX3_mix 12 = .ok (.iload_n 3, 1) := by decide +kernel
theorem dX3_mix_13 : decode cX3_mix 13 = .ok (.iconst 5, 1) := by decide +kernel
theorem dX3_mix_14 : decode cX3_mix 14 = .ok (.if_icmp .ge 55, 3) := by decide +kernel
theorem dX3_mix_17 : decode cX3_mix 17 = .ok (.aload_n 0, 1) := by decide +kernel
theorem dX3_mix_18 : decode cX3_mix 18 = .ok (.getfield 27, 3) := by decide +kernel
theorem dX3_mix_21 : decode cX3_mix 21 = .ok (.iload_n 3, 1) := by decide +kernel
theorem dX3_mix_22 : decode cX3_mix 22 = .ok (.lconst 0, 1) := by decide +kernel
theorem dX3_mix_23 : decode cX3_mix 23 = .ok (.lastore, 1) := by decide +kernel
theorem dX3_mix_24 : decode cX3_mix 24 = .ok (.iconst 0, 1) := by decide +kernel
theorem dX3_mix_25 : decode cX3_mix 25 = .ok (.istore 4, 2) := by decide +kernel
theorem dX3_mix_27 : decode cX3_mix 27 = .ok (.iload 4, 2) := by decide +kernel
theorem dX3_mix_29 : decode cX3_mix 29 = .ok (.iconst 5, 1) := by decide +kernel
theorem dX3_mix_30 : decode cX3_mix 30 = .ok (.if_icmp .ge 33, 3) := by decide +kernel
theorem dX3_mix_33 : decode cX3_mix 33 = .ok (.aload_n 0, 1) := by decide +kernel
theorem dX3_mix_34 : decode cX3_mix 34 = .ok (.getfield 27, 3) := by decide +kernel
theorem dX3_mix_37 : decode cX3_mix 37 = .ok (.iload_n 3, 1) := by decide +kernel
theorem dX3_mix_38 : decode cX3_mix 38 = .ok (.aload_n 0, 1) := by decide +kernel
theorem dX3_mix_39 : decode cX3_mix 39 = .ok (.getfield 27, 3) := by decide +kernel
theorem dX3_mix_42 : decode cX3_mix 42 = .ok (.iload_n 3, 1) := by decide +kernel
theorem dX3_mix_43 : decode cX3_mix 43 = .ok (.laload, 1) := by decide +kernel
theorem dX3_mix_44 : decode cX3_mix 44 = .ok (.aload_n 0, 1) := by decide +kernel
theorem dX3_mix_45 : decode cX3_mix 45 = .ok (.getfield 20, 3) := by decide +kernel
theorem dX3_mix_48 : decode cX3_mix 48 = .ok (.iload_n 3, 1) := by decide +kernel
theorem dX3_mix_49 : decode cX3_mix 49 = .ok (.iload 4, 2) := by decide +kernel
theorem dX3_mix_51 : decode cX3_mix 51 = .ok (.invokestatic 49, 3) := by decide +kernel
theorem dX3_mix_54 : decode cX3_mix 54 = .ok (.laload, 1) := by decide +kernel
theorem dX3_mix_55 : decode cX3_mix 55 = .ok (.lxor, 1) := by decide +kernel
theorem dX3_mix_56 : decode cX3_mix 56 = .ok (.lastore, 1) := by decide +kernel
theorem dX3_mix_57 : decode cX3_mix 57 = .ok (.iinc 4 1, 3) := by decide +kernel
theorem dX3_mix_60 : decode cX3_mix 60 = .ok (.goto (-33), 3) := by decide +kernel
theorem dX3_mix_63 : decode cX3_mix 63 = .ok (.iinc 3 1, 3) := by decide +kernel
theorem dX3_mix_66 : decode cX3_mix 66 = .ok (.goto (-54), 3) := by decide +kernel
theorem dX3_mix_69 : decode cX3_mix 69 = .ok (.iconst 0, 1) := by decide +kernel
theorem dX3_mix_70 : decode cX3_mix 70 = .ok (.istore_n 3, 1) := by decide +kernel
theorem dX3_mix_71 : decode cX3_mix 71 = .ok (.iload_n 3, 1) := by decide +kernel
theorem dX3_mix_72 : decode cX3_mix 72 = .ok (.iconst 5, 1) := by decide +kernel
theorem dX3_mix_73 : decode cX3_mix 73 = .ok (.if_icmp .ge 72, 3) := by decide +kernel
theorem dX3_mix_76 : decode cX3_mix 76 = .ok (.iconst 0, 1) := by decide +kernel
theorem dX3_mix_77 : decode cX3_mix 77 = .ok (.istore 4, 2) := by decide +kernel
theorem dX3_mix_79 : decode cX3_mix 79 = .ok (.iload 4, 2) := by decide +kernel
theorem dX3_mix_81 : decode cX3_mix 81 = .ok (.iconst 5, 1) := by decide +kernel
theorem dX3_mix_82 : decode cX3_mix 82 = .ok (.if_icmp .ge 57, 3) := by decide +kernel
theorem dX3_mix_85 : decode cX3_mix 85 = .ok (.aload_n 0, 1) := by decide +kernel
theorem dX3_mix_86 : decode cX3_mix 86 = .ok (.getfield 20, 3) := by decide +kernel
theorem dX3_mix_89 : decode cX3_mix 89 = .ok (.iload_n 3, 1) := by decide +kernel
theorem dX3_mix_90 : decode cX3_mix 90 = .ok (.iload 4, 2) := by decide +kernel
theorem dX3_mix_92 : decode cX3_mix 92 = .ok (.invokestatic 49, 3) := by decide +kernel
theorem dX3_mix_95 : decode cX3_mix 95 = .ok (.aload_n 0, 1) := by decide +kernel
theorem dX3_mix_96 : decode cX3_mix 96 = .ok (.getfield 20, 3) := by decide +kernel
theorem dX3_mix_99 : decode cX3_mix 99 = .ok (.iload_n 3, 1) := by decide +kernel
theorem dX3_mix_100 : decode cX3_mix 100 = .ok (.iload 4, 2) := by decide +kernel
theorem dX3_mix_102 : decode cX3_mix 102 = .ok (.invokestatic 49, 3) := by decide +kernel
theorem dX3_mix_105 : decode cX3_mix 105 = .ok (.laload, 1) := by decide +kernel
theorem dX3_mix_106 : decode cX3_mix 106 = .ok (.aload_n 0, 1) := by decide +kernel
theorem dX3_mix_107 : decode cX3_mix 107 = .ok (.getfield 27, 3) := by decide +kernel
theorem dX3_mix_110 : decode cX3_mix 110 = .ok (.iload_n 3, 1) := by decide +kernel
theorem dX3_mix_111 : decode cX3_mix 111 = .ok (.iconst 4, 1) := by decide +kernel
theorem dX3_mix_112 : decode cX3_mix 112 = .ok (.iadd, 1) := by decide +kernel
theorem dX3_mix_113 : decode cX3_mix 113 = .ok (.iconst 5, 1) := by decide +kernel
theorem dX3_mix_114 : decode cX3_mix 114 = .ok (.irem, 1) := by decide +kernel
theorem dX3_mix_115 : decode cX3_mix 115 = .ok (.laload, 1) := by decide +kernel
theorem dX3_mix_116 : decode cX3_mix 116 = .ok (.lxor, 1) := by decide +kernel
theorem dX3_mix_117 : decode cX3_mix 117 = .ok (.aload_n 0, 1) := by decide +kernel
theorem dX3_mix_118 : decode cX3_mix 118 = .ok (.getfield 27, 3) := by decide +kernel
theorem dX3_mix_121 : decode cX3_mix 121 = .ok (.iload_n 3, 1) := by decide +kernel
theorem dX3_mix_122 : decode cX3_mix 122 = .ok (.iconst 1, 1) := by decide +kernel
theorem dX3_mix_123 : decode cX3_mix 123 = .ok (.iadd, 1) := by decide +kernel
theorem dX3_mix_124 : decode cX3_mix 124 = .ok (.iconst 5, 1) := by decide +kernel
theorem dX3_mix_125 : decode cX3_mix 125 = .ok (.irem, 1) := by decide +kernel
theorem dX3_mix_126 : decode cX3_mix 126 = .ok (.laload, 1) := by decide +kernel
theorem dX3_mix_127 : decode cX3_mix 127 = .ok (.iconst 1, 1) := by decide +kernel
theorem dX3_mix_128 : decode cX3_mix 128 = .ok (.invokestatic 53, 3) := by decide +kernel
theorem dX3_mix_131 : decode cX3_mix 131 = .ok (.lxor, 1) := by decide +kernel
theorem dX3_mix_132 : decode cX3_mix 132 = .ok (.lastore, 1) := by decide +kernel
theorem dX3_mix_133 : decode cX3_mix 133 = .ok (.iinc 4 1, 3) := by decide +kernel
theorem dX3_mix_136 : decode cX3_mix 136 = .ok (.goto (-57), 3) := by decide +kernel
theorem dX3_mix_139 : decode cX3_mix 139 = .ok (.iinc 3 1, 3) := by decide +kernel
theorem dX3_mix_142 : decode cX3_mix 142 = .ok (.goto (-71), 3) := by decide +kernel
theorem dX3_mix_145 : decode cX3_mix 145 = .ok (.iconst 1, 1) := by decide +kernel
theorem dX3_mix_146 : decode cX3_mix 146 = .ok (.istore_n 3, 1) := by decide +kernel
theorem dX3_mix_147 : decode cX3_mix 147 = .ok (.iconst 0, 1) := by decide +kernel
theorem dX3_mix_148 : decode cX3_mix 148 = .ok (.istore 4, 2) := by decide +kernel
theorem dX3_mix_150 : decode cX3_mix 150 = .ok (.iconst 0, 1) := by decide +kernel
theorem dX3_mix_151 : decode cX3_mix 151 = .ok (.istore 5, 2) := by decide +kernel
theorem dX3_mix_153 : decode cX3_mix 153 = .ok (.iload 5, 2) := by decide +kernel
theorem dX3_mix_155 : decode cX3_mix 155 = .ok (.bipush 24, 2) := by decide +kernel
theorem dX3_mix_157 : decode cX3_mix 157 = .ok (.if_icmp .ge 67, 3) := by decide +kernel
theorem dX3_mix_160 : decode cX3_mix 160 = .ok (.aload_n 0, 1) := by decide +kernel
theorem dX3_mix_161 : decode cX3_mix 161 = .ok (.getfield 20, 3) := by decide +kernel
theorem dX3_mix_164 : decode cX3_mix 164 = .ok (.iload_n 3, 1) := by decide +kernel
theorem dX3_mix_165 : decode cX3_mix 165 = .ok (.iload 4, 2) := by decide +kernel
theorem dX3_mix_167 : decode cX3_mix 167 = .ok (.invokestatic 49, 3) := by decide +kernel
theorem dX3_mix_170 : decode cX3_mix 170 = .ok (.aload_n 0, 1) := by decide +kernel
theorem dX3_mix_171 : decode cX3_mix 171 = .ok (.getfield 20, 3) := by decide +kernel
theorem dX3_mix_174 : decode cX3_mix 174 = .ok (.iload_n 3, 1) := by decide +kernel
theorem dX3_mix_175 : decode cX3_mix 175 = .ok (.iload 4, 2) := by decide +kernel
theorem dX3_mix_177 : decode cX3_mix 177 = .ok (.invokestatic 49, 3) := by decide +kernel
theorem dX3_mix_180 : decode cX3_mix 180 = .ok (.laload, 1) := by decide +kernel
theorem dX3_mix_181 : decode cX3_mix 181 = .ok (.iload 5, 2) := by decide +kernel
theorem dX3_mix_183 : decode cX3_mix 183 = .ok (.iconst 1, 1) := by decide +kernel
theorem dX3_mix_184 : decode cX3_mix 184 = .ok (.iadd, 1) := by decide +kernel
theorem dX3_mix_185 : decode cX3_mix 185 = .ok (.iload 5, 2) := by decide +kernel
theorem dX3_mix_187 : decode cX3_mix 187 = .ok (.iconst 2, 1) := by decide +kernel
theorem dX3_mix_188 : decode cX3_mix 188 = .ok (.iadd, 1) := by decide +kernel
theorem dX3_mix_189 : decode cX3_mix 189 = .ok (.imul, 1) := by decide +kernel
theorem dX3_mix_190 : decode cX3_mix 190 = .ok (.iconst 2, 1) := by decide +kernel
theorem dX3_mix_191 : decode cX3_mix 191 = .ok (.idiv, 1) := by decide +kernel
theorem dX3_mix_192 : decode cX3_mix 192 = .ok (.bipush 64, 2) := by decide +kernel
theorem dX3_mix_194 : decode cX3_mix 194 = .ok (.irem, 1) := by decide +kernel
theorem dX3_mix_195 : decode cX3_mix 195 = .ok (.invokestatic 53, 3) := by decide +kernel
theorem dX3_mix_198 : decode cX3_mix 198 = .ok (.lastore, 1) := by decide +kernel
theorem dX3_mix_199 : decode cX3_mix 199 = .ok (.iload_n 3, 1) := by decide +kernel
theorem dX3_mix_200 : decode cX3_mix 200 = .ok (.istore 6, 2) := by decide +kernel
theorem dX3_mix_202 : decode cX3_mix 202 = .ok (.iload 4, 2) := by decide +kernel
theorem dX3_mix_204 : decode cX3_mix 204 = .ok (.istore_n 3, 1) := by decide +kernel
theorem dX3_mix_205 : decode cX3_mix 205 = .ok (.iconst 2, 1) := by decide +kernel
theorem dX3_mix_206 : decode cX3_mix 206 = .ok (.iload 6, 2) := by decide +kernel
theorem dX3_mix_208 : decode cX3_mix 208 = .ok (.imul, 1) := by decide +kernel
theorem dX3_mix_209 : decode cX3_mix 209 = .ok (.iconst 3, 1) := by decide +kernel
theorem dX3_mix_210 : decode cX3_mix 210 = .ok (.iload 4, 2) := by decide +kernel
theorem dX3_mix_212 : decode cX3_mix 212 = .ok (.imul, 1) := by decide +kernel
theorem dX3_mix_213 : decode cX3_mix 213 = .ok (.iadd, 1) := by decide +kernel
theorem dX3_mix_214 : decode cX3_mix 214 = .ok (.iconst 5, 1) := by decide +kernel
theorem dX3_mix_215 : decode cX3_mix 215 = .ok (.irem, 1) := by decide +kernel
theorem dX3_mix_216 : decode cX3_mix 216 = .ok (.istore 4, 2) := by decide +kernel
theorem dX3_mix_218 : decode cX3_mix 218 = .ok (.iinc 5 1, 3) := by decide +kernel
theorem dX3_mix_221 : decode cX3_mix 221 = .ok (.goto (-68), 3) := by decide +kernel
theorem dX3_mix_224 : decode cX3_mix 224 = .ok (.iconst 0, 1) := by decide +kernel
theorem dX3_mix_225 : decode cX3_mix 225 = .ok (.istore 5, 2) := by decide +kernel
theorem dX3_mix_227 : decode cX3_mix 227 = .ok (.iload 5, 2) := by decide +kernel
theorem dX3_mix_229 : decode cX3_mix 229 = .ok (.iconst 5, 1) := by decide +kernel
theorem dX3_mix_230 : decode cX3_mix 230 = .ok (.if_icmp .ge 55, 3) := by decide +kernel
theorem dX3_mix_233 : decode cX3_mix 233 = .ok (.iconst 0, 1) := by decide +kernel
theorem dX3_mix_234 : decode cX3_mix 234 = .ok (.istore 6, 2) := by decide +kernel
theorem dX3_mix_236 : decode cX3_mix 236 = .ok (.iload 6, 2) := by decide +kernel
theorem dX3_mix_238 : decode cX3_mix 238 = .ok (.iconst 5, 1) := by decide +kernel
theorem dX3_mix_239 : decode cX3_mix 239 = .ok (.if_icmp .ge 40, 3) := by decide +kernel
theorem dX3_mix_242 : decode cX3_mix 242 = .ok (.aload_n 0, 1) := by decide +kernel
theorem dX3_mix_243 : decode cX3_mix 243 = .ok (.getfield 24, 3) := by decide +kernel
theorem dX3_mix_246 : decode cX3_mix 246 = .ok (.iload 6, 2) := by decide +kernel
theorem dX3_mix_248 : decode cX3_mix 248 = .ok (.iconst 2, 1) := by decide +kernel
theorem dX3_mix_249 : decode cX3_mix 249 = .ok (.iload 5, 2) := by decide +kernel
theorem dX3_mix_251 : decode cX3_mix 251 = .ok (.imul, 1) := by decide +kernel
theorem dX3_mix_252 : decode cX3_mix 252 = .ok (.iconst 3, 1) := by decide +kernel
theorem dX3_mix_253 : decode cX3_mix 253 = .ok (.iload 6, 2) := by decide +kernel
theorem dX3_mix_255 : decode cX3_mix 255 = .ok (.imul, 1) := by decide +kernel
theorem dX3_mix_256 : decode cX3_mix 256 = .ok (.iadd, 1) := by decide +kernel
theorem dX3_mix_257 : decode cX3_mix 257 = .ok (.invokestatic 49, 3) := by decide +kernel
theorem dX3_mix_260 : decode cX3_mix 260 = .ok (.aload_n 0, 1) := by decide +kernel
theorem dX3_mix_261 : decode cX3_mix 261 = .ok (.getfield 20, 3) := by decide +kernel
theorem dX3_mix_264 : decode cX3_mix 264 = .ok (.iload 5, 2) := by decide +kernel
theorem dX3_mix_266 : decode cX3_mix 266 = .ok (.iload 6, 2) := by decide +kernel
theorem dX3_mix_268 : decode cX3_mix 268 = .ok (.invokestatic 49, 3) := by decide +kernel
theorem dX3_mix_271 : decode cX3_mix 271 = .ok (.laload, 1) := by decide +kernel
theorem dX3_mix_272 : decode cX3_mix 272 = .ok (.lastore, 1) := by decide +kernel
theorem dX3_mix_273 : decode cX3_mix 273 = .ok (.iinc 6 1, 3) := by decide +kernel
theorem dX3_mix_276 : decode cX3_mix 276 = .ok (.goto (-40), 3) := by decide +kernel
theorem dX3_mix_279 : decode cX3_mix 279 = .ok (.iinc 5 1, 3) := by decide +kernel
theorem dX3_mix_282 : decode cX3_mix 282 = .ok (.goto (-55), 3) := by decide +kernel
theorem dX3_mix_285 : decode cX3_mix 285 = .ok (.iconst 0, 1) := by decide +kernel
theorem dX3_mix_286 : decode cX3_mix 286 = .ok (.istore 5, 2) := by decide +kernel
theorem dX3_mix_288 : decode cX3_mix 288 = .ok (.iload 5, 2) := by decide +kernel
theorem dX3_mix_290 : decode cX3_mix 290 = .ok (.iconst 5, 1) := by decide +kernel
theorem dX3_mix_291 : decode cX3_mix 291 = .ok (.if_icmp .ge 82, 3) := by decide +kernel
theorem dX3_mix_294 : decode cX3_mix 294 = .ok (.iconst 0, 1) := by decide +kernel
theorem dX3_mix_295 : decode cX3_mix 295 = .ok (.istore 6, 2) := by decide +kernel
theorem dX3_mix_297 : decode cX3_mix 297 = .ok (.iload 6, 2) := by decide +kernel
theorem dX3_mix_299 : decode cX3_mix 299 = .ok (.iconst 5, 1) := by decide +kernel
theorem dX3_mix_300 : decode cX3_mix 300 = .ok (.if_icmp .ge 67, 3) := by decide +kernel
theorem dX3_mix_303 : decode cX3_mix 303 = .ok (.aload_n 0, 1) := by decide +kernel
theorem dX3_mix_304 : decode cX3_mix 304 = .ok (.getfield 20, 3) := by decide +kernel
theorem dX3_mix_307 : decode cX3_mix 307 = .ok (.iload 5, 2) := by decide +kernel
theorem dX3_mix_309 : decode cX3_mix 309 = .ok (.iload 6, 2) := by decide +kernel
theorem dX3_mix_311 : decode cX3_mix 311 = .ok (.invokestatic 49, 3) := by decide +kernel
theorem dX3_mix_314 : decode cX3_mix 314 = .ok (.aload_n 0, 1) := by decide +kernel
theorem dX3_mix_315 : decode cX3_mix 315 = .ok (.getfield 24, 3) := by decide +kernel
theorem dX3_mix_318 : decode cX3_mix 318 = .ok (.iload 5, 2) := by decide +kernel
theorem dX3_mix_320 : decode cX3_mix 320 = .ok (.iload 6, 2) := by decide +kernel
theorem dX3_mix_322 : decode cX3_mix 322 = .ok (.invokestatic 49, 3) := by decide +kernel
theorem dX3_mix_325 : decode cX3_mix 325 = .ok (.laload, 1) := by decide +kernel
theorem dX3_mix_326 : decode cX3_mix 326 = .ok (.aload_n 0, 1) := by decide +kernel
theorem dX3_mix_327 : decode cX3_mix 327 = .ok (.getfield 24, 3) := by decide +kernel
theorem dX3_mix_330 : decode cX3_mix 330 = .ok (.iload 5, 2) := by decide +kernel
theorem dX3_mix_332 : decode cX3_mix 332 = .ok (.iconst 1, 1) := by decide +kernel
theorem dX3_mix_333 : decode cX3_mix 333 = .ok (.iadd, 1) := by decide +kernel
theorem dX3_mix_334 : decode cX3_mix 334 = .ok (.iload 6, 2) := by decide +kernel
theorem dX3_mix_336 : decode cX3_mix 336 = .ok (.invokestatic 49, 3) := by decide +kernel
theorem dX3_mix_339 : decode cX3_mix 339 = .ok (.laload, 1) := by decide +kernel
theorem dX3_mix_340 : decode cX3_mix 340 = .ok (.ldc2_w 57, 3) := by decide +kernel
theorem dX3_mix_343 : decode cX3_mix 343 = .ok (.lxor, 1) := by decide +kernel
theorem dX3_mix_344 : decode cX3_mix 344 = .ok (.aload_n 0, 1) := by decide +kernel
theorem dX3_mix_345 : decode cX3_mix 345 = .ok (.getfield 24, 3) := by decide +kernel
theorem dX3_mix_348 : decode cX3_mix 348 = .ok (.iload 5, 2) := by decide +kernel
theorem dX3_mix_350 : decode cX3_mix 350 = .ok (.iconst 2, 1) := by decide +kernel
theorem dX3_mix_351 : decode cX3_mix 351 = .ok (.iadd, 1) := by decide +kernel
theorem dX3_mix_352 : decode cX3_mix 352 = .ok (.iload 6, 2) := by decide +kernel
theorem dX3_mix_354 : decode cX3_mix 354 = .ok (.invokestatic 49, 3) := by decide +kernel
theorem dX3_mix_357 : decode cX3_mix 357 = .ok (.laload, 1) := by decide +kernel
theorem dX3_mix_358 : decode cX3_mix 358 = .ok (.land, 1) := by decide +kernel
theorem dX3_mix_359 : decode cX3_mix 359 = .ok (.lxor, 1) := by decide +kernel
theorem dX3_mix_360 : decode cX3_mix 360 = .ok (.lastore, 1) := by decide +kernel
theorem dX3_mix_361 : decode cX3_mix 361 = .ok (.iinc 6 1, 3) := by decide +kernel
theorem dX3_mix_364 : decode cX3_mix 364 = .ok (.goto (-67), 3) := by decide +kernel
theorem dX3_mix_367 : decode cX3_mix 367 = .ok (.iinc 5 1, 3) := by decide +kernel
theorem dX3_mix_370 : decode cX3_mix 370 = .ok (.goto (-82), 3) := by decide +kernel
theorem dX3_mix_373 : decode cX3_mix 373 = .ok (.iconst 0, 1) := by decide +kernel
theorem dX3_mix_374 : decode cX3_mix 374 = .ok (.istore 5, 2) := by decide +kernel
theorem dX3_mix_376 : decode cX3_mix 376 = .ok (.iload 5, 2) := by decide +kernel
theorem dX3_mix_378 : decode cX3_mix 378 = .ok (.bipush 7, 2) := by decide +kernel
theorem dX3_mix_380 : decode cX3_mix 380 = .ok (.if_icmp .ge 53, 3) := by decide +kernel
theorem dX3_mix_383 : decode cX3_mix 383 = .ok (.iload_n 1, 1) := by decide +kernel
theorem dX3_mix_384 : decode cX3_mix 384 = .ok (.iconst 1, 1) := by decide +kernel
theorem dX3_mix_385 : decode cX3_mix 385 = .ok (.iand, 1) := by decide +kernel
theorem dX3_mix_386 : decode cX3_mix 386 = .ok (.ifCond .eq 24, 3) := by decide +kernel
theorem dX3_mix_389 : decode cX3_mix 389 = .ok (.aload_n 0, 1) := by decide +kernel
theorem dX3_mix_390 : decode cX3_mix 390 = .ok (.getfield 20, 3) := by decide +kernel
theorem dX3_mix_393 : decode cX3_mix 393 = .ok (.iconst 0, 1) := by decide +kernel
theorem dX3_mix_394 : decode cX3_mix 394 = .ok (.aload_n 0, 1) := by decide +kernel
theorem dX3_mix_395 : decode cX3_mix 395 = .ok (.getfield 20, 3) := by decide +kernel
theorem dX3_mix_398 : decode cX3_mix 398 = .ok (.iconst 0, 1) := by decide +kernel
theorem dX3_mix_399 : decode cX3_mix 399 = .ok (.laload, 1) := by decide +kernel
theorem dX3_mix_400 : decode cX3_mix 400 = .ok (.lconst 1, 1) := by decide +kernel
theorem dX3_mix_401 : decode cX3_mix 401 = .ok (.iconst 1, 1) := by decide +kernel
theorem dX3_mix_402 : decode cX3_mix 402 = .ok (.iload 5, 2) := by decide +kernel
theorem dX3_mix_404 : decode cX3_mix 404 = .ok (.ishl, 1) := by decide +kernel
theorem dX3_mix_405 : decode cX3_mix 405 = .ok (.iconst 1, 1) := by decide +kernel
theorem dX3_mix_406 : decode cX3_mix 406 = .ok (.isub, 1) := by decide +kernel
theorem dX3_mix_407 : decode cX3_mix 407 = .ok (.lshl, 1) := by decide +kernel
theorem dX3_mix_408 : decode cX3_mix 408 = .ok (.lxor, 1) := by decide +kernel
theorem dX3_mix_409 : decode cX3_mix 409 = .ok (.lastore, 1) := by decide +kernel
theorem dX3_mix_410 : decode cX3_mix 410 = .ok (.iload_n 1, 1) := by decide +kernel
theorem dX3_mix_411 : decode cX3_mix 411 = .ok (.iconst 1, 1) := by decide +kernel
theorem dX3_mix_412 : decode cX3_mix 412 = .ok (.ishl, 1) := by decide +kernel
theorem dX3_mix_413 : decode cX3_mix 413 = .ok (.istore_n 1, 1) := by decide +kernel
theorem dX3_mix_414 : decode cX3_mix 414 = .ok (.iload_n 1, 1) := by decide +kernel
theorem dX3_mix_415 : decode cX3_mix 415 = .ok (.sipush 255, 3) := by decide +kernel
theorem dX3_mix_418 : decode cX3_mix 418 = .ok (.if_icmp .le 9, 3) := by decide +kernel
theorem dX3_mix_421 : decode cX3_mix 421 = .ok (.iload_n 1, 1) := by decide +kernel
theorem dX3_mix_422 : decode cX3_mix 422 = .ok (.sipush 369, 3) := by decide +kernel
theorem dX3_mix_425 : decode cX3_mix 425 = .ok (.ixor, 1) := by decide +kernel
theorem dX3_mix_426 : decode cX3_mix 426 = .ok (.istore_n 1, 1) := by decide +kernel
theorem dX3_mix_427 : decode cX3_mix 427 = .ok (.iinc 5 1, 3) := by decide +kernel
theorem dX3_mix_430 : decode cX3_mix 430 = .ok (.goto (-54), 3) := by decide +kernel
theorem dX3_mix_433 : decode cX3_mix 433 = .ok (.iinc 2 1, 3) := by decide +kernel
theorem dX3_mix_436 : decode cX3_mix 436 = .ok (.goto (-432), 3) := by decide +kernel
theorem dX3_mix_439 : decode cX3_mix 439 = .ok (.return_, 1) := by decide +kernel
theorem dX3_at_0 : decode cX3_at 0 = .ok (.iconst 5, 1) := by decide +kernel
theorem dX3_at_1 : decode cX3_at 1 = .ok (.iload_n 1, 1) := by decide +kernel
theorem dX3_at_2 : decode cX3_at 2 = .ok (.iconst 5, 1) := by decide +kernel
theorem dX3_at_3 : decode cX3_at 3 = .ok (.irem, 1) := by decide +kernel
theorem dX3_at_4 : decode cX3_at 4 = .ok (.imul, 1) := by decide +kernel
theorem dX3_at_5 : decode cX3_at 5 = .ok (.iload_n 0, 1) := by decide +kernel
theorem dX3_at_6 : decode cX3_at 6 = .ok (.iconst 5, 1) := by decide +kernel
theorem dX3_at_7 : decode cX3_at 7 = .ok (.irem, 1) := by decide +kernel
theorem dX3_at_8 : decode cX3_at 8 = .ok (.iadd, 1) := by decide +kernel
theorem dX3_at_9 : decode cX3_at 9 = .ok (.ireturn, 1) := by decide +kernel
theorem dX3_turn_0 : decode cX3_turn 0 = .ok (.iload_n 2, 1) := by decide +kernel
theorem dX3_turn_1 : decode cX3_turn 1 = .ok (.ifCond .ne 7, 3) := by decide +kernel
theorem dX3_turn_4 : decode cX3_turn 4 = .ok (.lload_n 0, 1) := by decide +kernel
theorem dX3_turn_5 : decode cX3_turn 5 = .ok (.goto 13, 3) := by decide +kernel
theorem dX3_turn_8 : decode cX3_turn 8 = .ok (.lload_n 0, 1) := by decide +kernel
theorem dX3_turn_9 : decode cX3_turn 9 = .ok (.iload_n 2, 1) := by decide +kernel
theorem dX3_turn_10 : decode cX3_turn 10 = .ok (.lshl, 1) := by decide +kernel
theorem dX3_turn_11 : decode cX3_turn 11 = .ok (.lload_n 0, 1) := by decide +kernel
theorem dX3_turn_12 : decode cX3_turn 12 = .ok (.bipush 64, 2) := by decide +kernel
theorem dX3_turn_14 : decode cX3_turn 14 = .ok (.iload_n 2, 1) := by decide +kernel
theorem dX3_turn_15 : decode cX3_turn 15 = .ok (.isub, 1) := by decide +kernel
theorem dX3_turn_16 : decode cX3_turn 16 = .ok (.lushr, 1) := by decide +kernel
theorem dX3_turn_17 : decode cX3_turn 17 = .ok (.lor, 1) := by decide +kernel
theorem dX3_turn_18 : decode cX3_turn 18 = .ok (.lreturn, 1) := by decide +kernel
theorem dX3_answer_0 : decode cX3_answer 0 = .ok (.aload_n 0, 1) := by decide +kernel
theorem dX3_answer_1 : decode cX3_answer 1 = .ok (.getfield 65, 3) := by decide +kernel
theorem dX3_answer_4 : decode cX3_answer 4 = .ok (.ifCond .ne 7, 3) := by decide +kernel
theorem dX3_answer_7 : decode cX3_answer 7 = .ok (.iconst (-1), 1) := by decide +kernel
theorem dX3_answer_8 : decode cX3_answer 8 = .ok (.goto 17, 3) := by decide +kernel
theorem dX3_answer_11 : decode cX3_answer 11 = .ok (.aload_n 0, 1) := by decide +kernel
theorem dX3_answer_12 : decode cX3_answer 12 = .ok (.getfield 30, 3) := by decide +kernel
theorem dX3_answer_15 : decode cX3_answer 15 = .ok (.iload_n 1, 1) := by decide +kernel
theorem dX3_answer_16 : decode cX3_answer 16 = .ok (.ldc 45, 2) := by decide +kernel
theorem dX3_answer_18 : decode cX3_answer 18 = .ok (.iand, 1) := by decide +kernel
theorem dX3_answer_19 : decode cX3_answer 19 = .ok (.aload_n 0, 1) := by decide +kernel
theorem dX3_answer_20 : decode cX3_answer 20 = .ok (.getfield 65, 3) := by decide +kernel
theorem dX3_answer_23 : decode cX3_answer 23 = .ok (.irem, 1) := by decide +kernel
theorem dX3_answer_24 : decode cX3_answer 24 = .ok (.iaload, 1) := by decide +kernel
theorem dX3_answer_25 : decode cX3_answer 25 = .ok (.ireturn, 1) := by decide +kernel
end
section
set_option maxRecDepth 100000
theorem dL_law_0 : decode cL_law 0 = .ok (.new 7, 3) := by decide +kernel
theorem dL_law_3 : decode cL_law 3 = .ok (.dup, 1) := by decide +kernel
theorem dL_law_4 : decode cL_law 4 = .ok (.invokespecial 9, 3) := by decide +kernel
theorem dL_law_7 : decode cL_law 7 = .ok (.astore_n 1, 1) := by decide +kernel
theorem dL_law_8 : decode cL_law 8 = .ok (.new 10, 3) := by decide +kernel
theorem dL_law_11 : decode cL_law 11 = .ok (.dup, 1) := by decide +kernel
theorem dL_law_12 : decode cL_law 12 = .ok (.invokespecial 12, 3) := by decide +kernel
theorem dL_law_15 : decode cL_law 15 = .ok (.astore_n 2, 1) := by decide +kernel
theorem dL_law_16 : decode cL_law 16 = .ok (.iconst 0, 1) := by decide +kernel
theorem dL_law_17 : decode cL_law 17 = .ok (.istore_n 3, 1) := by decide +kernel
theorem dL_law_18 : decode cL_law 18 = .ok (.iload_n 3, 1) := by decide +kernel
theorem dL_law_19 : decode cL_law 19 = .ok (.aload_n 0, 1) := by decide +kernel
theorem dL_law_20 : decode cL_law 20 = .ok (.arraylength, 1) := by decide +kernel
theorem dL_law_21 : decode cL_law 21 = .ok (.iconst 5, 1) := by decide +kernel
theorem dL_law_22 : decode cL_law 22 = .ok (.isub, 1) := by decide +kernel
theorem dL_law_23 : decode cL_law 23 = .ok (.if_icmp .gt 246, 3) := by decide +kernel
theorem dL_law_26 : decode cL_law 26 = .ok (.aload_n 0, 1) := by decide +kernel
theorem dL_law_27 : decode cL_law 27 = .ok (.iload_n 3, 1) := by decide +kernel
theorem dL_law_28 : decode cL_law 28 = .ok (.iaload, 1) := by decide +kernel
theorem dL_law_29 : decode cL_law 29 = .ok (.bipush 7, 2) := by decide +kernel
theorem dL_law_31 : decode cL_law 31 = .ok (.iand, 1) := by decide +kernel
theorem dL_law_32 : decode cL_law 32 = .ok (.tableswitch 231 0 6 #[44, 97, 118, 131, 152, 185, 208], 44) := by decide +kernel
theorem dL_law_76 : decode cL_law 76 = .ok (.aload_n 1, 1) := by decide +kernel
theorem dL_law_77 : decode cL_law 77 = .ok (.aload_n 0, 1) := by decide +kernel
theorem dL_law_78 : decode cL_law 78 = .ok (.iload_n 3, 1) := by decide +kernel
theorem dL_law_79 : decode cL_law 79 = .ok (.iconst 1, 1) := by decide +kernel
theorem dL_law_80 : decode cL_law 80 = .ok (.iadd, 1) := by decide +kernel
theorem dL_law_81 : decode cL_law 81 = .ok (.iaload, 1) := by decide +kernel
theorem dL_law_82 : decode cL_law 82 = .ok (.aload_n 0, 1) := by decide +kernel
theorem dL_law_83 : decode cL_law 83 = .ok (.iload_n 3, 1) := by decide +kernel
theorem dL_law_84 : decode cL_law 84 = .ok (.iconst 2, 1) := by decide +kernel
theorem dL_law_85 : decode cL_law 85 = .ok (.iadd, 1) := by decide +kernel
theorem dL_law_86 : decode cL_law 86 = .ok (.iaload, 1) := by decide +kernel
theorem dL_law_87 : decode cL_law 87 = .ok (.aload_n 0, 1) := by decide +kernel
theorem dL_law_88 : decode cL_law 88 = .ok (.iload_n 3, 1) := by decide +kernel
theorem dL_law_89 : decode cL_law 89 = .ok (.iconst 3, 1) := by decide +kernel
theorem dL_law_90 : decode cL_law 90 = .ok (.iadd, 1) := by decide +kernel
theorem dL_law_91 : decode cL_law 91 = .ok (.iaload, 1) := by decide +kernel
theorem dL_law_92 : decode cL_law 92 = .ok (.aload_n 0, 1) := by decide +kernel
theorem dL_law_93 : decode cL_law 93 = .ok (.iload_n 3, 1) := by decide +kernel
theorem dL_law_94 : decode cL_law 94 = .ok (.iconst 4, 1) := by decide +kernel
theorem dL_law_95 : decode cL_law 95 = .ok (.iadd, 1) := by decide +kernel
theorem dL_law_96 : decode cL_law 96 = .ok (.iaload, 1) := by decide +kernel
theorem dL_law_97 : decode cL_law 97 = .ok (.invokevirtual 13, 3) := by decide +kernel
theorem dL_law_100 : decode cL_law 100 = .ok (.aload_n 2, 1) := by decide +kernel
theorem dL_law_101 : decode cL_law 101 = .ok (.aload_n 0, 1) := by decide +kernel
theorem dL_law_102 : decode cL_law 102 = .ok (.iload_n 3, 1) := by decide +kernel
theorem dL_law_103 : decode cL_law 103 = .ok (.iconst 1, 1) := by decide +kernel
theorem dL_law_104 : decode cL_law 104 = .ok (.iadd, 1) := by decide +kernel
theorem dL_law_105 : decode cL_law 105 = .ok (.iaload, 1) := by decide +kernel
theorem dL_law_106 : decode cL_law 106 = .ok (.aload_n 0, 1) := by decide +kernel
theorem dL_law_107 : decode cL_law 107 = .ok (.iload_n 3, 1) := by decide +kernel
theorem dL_law_108 : decode cL_law 108 = .ok (.iconst 2, 1) := by decide +kernel
theorem dL_law_109 : decode cL_law 109 = .ok (.iadd, 1) := by decide +kernel
theorem dL_law_110 : decode cL_law 110 = .ok (.iaload, 1) := by decide +kernel
theorem dL_law_111 : decode cL_law 111 = .ok (.aload_n 0, 1) := by decide +kernel
theorem dL_law_112 : decode cL_law 112 = .ok (.iload_n 3, 1) := by decide +kernel
theorem dL_law_113 : decode cL_law 113 = .ok (.iconst 3, 1) := by decide +kernel
theorem dL_law_114 : decode cL_law 114 = .ok (.iadd, 1) := by decide +kernel
theorem dL_law_115 : decode cL_law 115 = .ok (.iaload, 1) := by decide +kernel
theorem dL_law_116 : decode cL_law 116 = .ok (.aload_n 0, 1) := by decide +kernel
theorem dL_law_117 : decode cL_law 117 = .ok (.iload_n 3, 1) := by decide +kernel
theorem dL_law_118 : decode cL_law 118 = .ok (.iconst 4, 1) := by decide +kernel
theorem dL_law_119 : decode cL_law 119 = .ok (.iadd, 1) := by decide +kernel
theorem dL_law_120 : decode cL_law 120 = .ok (.iaload, 1) := by decide +kernel
theorem dL_law_121 : decode cL_law 121 = .ok (.invokevirtual 17, 3) := by decide +kernel
theorem dL_law_124 : decode cL_law 124 = .ok (.if_icmp .eq 139, 3) := by decide +kernel
theorem dL_law_127 : decode cL_law 127 = .ok (.iconst 0, 1) := by decide +kernel
theorem dL_law_128 : decode cL_law 128 = .ok (.ireturn, 1) := by decide +kernel
theorem dL_law_129 : decode cL_law 129 = .ok (.aload_n 1, 1) := by decide +kernel
theorem dL_law_130 : decode cL_law 130 = .ok (.aload_n 0, 1) := by decide +kernel
theorem dL_law_131 : decode cL_law 131 = .ok (.iload_n 3, 1) := by decide +kernel
theorem dL_law_132 : decode cL_law 132 = .ok (.iconst 1, 1) := by decide +kernel
theorem dL_law_133 : decode cL_law 133 = .ok (.iadd, 1) := by decide +kernel
theorem dL_law_134 : decode cL_law 134 = .ok (.iaload, 1) := by decide +kernel
theorem dL_law_135 : decode cL_law 135 = .ok (.invokevirtual 18, 3) := by decide +kernel
theorem dL_law_138 : decode cL_law 138 = .ok (.aload_n 2, 1) := by decide +kernel
theorem dL_law_139 : decode cL_law 139 = .ok (.aload_n 0, 1) := by decide +kernel
theorem dL_law_140 : decode cL_law 140 = .ok (.iload_n 3, 1) := by decide +kernel
theorem dL_law_141 : decode cL_law 141 = .ok (.iconst 1, 1) := by decide +kernel
theorem dL_law_142 : decode cL_law 142 = .ok (.iadd, 1) := by decide +kernel
theorem dL_law_143 : decode cL_law 143 = .ok (.iaload, 1) := by decide +kernel
theorem dL_law_144 : decode cL_law 144 = .ok (.invokevirtual 22, 3) := by decide +kernel
theorem dL_law_147 : decode cL_law 147 = .ok (.goto 116, 3) := by decide +kernel
theorem dL_law_150 : decode cL_law 150 = .ok (.aload_n 1, 1) := by decide +kernel
theorem dL_law_151 : decode cL_law 151 = .ok (.invokevirtual 23, 3) := by decide +kernel
theorem dL_law_154 : decode cL_law 154 = .ok (.aload_n 2, 1) := by decide +kernel
theorem dL_law_155 : decode cL_law 155 = .ok (.invokevirtual 27, 3) := by decide +kernel
theorem dL_law_158 : decode cL_law 158 = .ok (.if_icmp .eq 105, 3) := by decide +kernel
theorem dL_law_161 : decode cL_law 161 = .ok (.iconst 0, 1) := by decide +kernel
theorem dL_law_162 : decode cL_law 162 = .ok (.ireturn, 1) := by decide +kernel
theorem dL_law_163 : decode cL_law 163 = .ok (.aload_n 1, 1) := by decide +kernel
theorem dL_law_164 : decode cL_law 164 = .ok (.aload_n 0, 1) := by decide +kernel
theorem dL_law_165 : decode cL_law 165 = .ok (.iload_n 3, 1) := by decide +kernel
theorem dL_law_166 : decode cL_law 166 = .ok (.iconst 1, 1) := by decide +kernel
theorem dL_law_167 : decode cL_law 167 = .ok (.iadd, 1) := by decide +kernel
theorem dL_law_168 : decode cL_law 168 = .ok (.iaload, 1) := by decide +kernel
theorem dL_law_169 : decode cL_law 169 = .ok (.invokevirtual 28, 3) := by decide +kernel
theorem dL_law_172 : decode cL_law 172 = .ok (.aload_n 2, 1) := by decide +kernel
theorem dL_law_173 : decode cL_law 173 = .ok (.aload_n 0, 1) := by decide +kernel
theorem dL_law_174 : decode cL_law 174 = .ok (.iload_n 3, 1) := by decide +kernel
theorem dL_law_175 : decode cL_law 175 = .ok (.iconst 1, 1) := by decide +kernel
theorem dL_law_176 : decode cL_law 176 = .ok (.iadd, 1) := by decide +kernel
theorem dL_law_177 : decode cL_law 177 = .ok (.iaload, 1) := by decide +kernel
theorem dL_law_178 : decode cL_law 178 = .ok (.invokevirtual 31, 3) := by decide +kernel
theorem dL_law_181 : decode cL_law 181 = .ok (.goto 82, 3) := by decide +kernel
theorem dL_law_184 : decode cL_law 184 = .ok (.aload_n 1, 1) := by decide +kernel
theorem dL_law_185 : decode cL_law 185 = .ok (.aload_n 0, 1) := by decide +kernel
theorem dL_law_186 : decode cL_law 186 = .ok (.iload_n 3, 1) := by decide +kernel
theorem dL_law_187 : decode cL_law 187 = .ok (.iconst 1, 1) := by decide +kernel
theorem dL_law_188 : decode cL_law 188 = .ok (.iadd, 1) := by decide +kernel
theorem dL_law_189 : decode cL_law 189 = .ok (.iaload, 1) := by decide +kernel
theorem dL_law_190 : decode cL_law 190 = .ok (.aload_n 0, 1) := by decide +kernel
theorem dL_law_191 : decode cL_law 191 = .ok (.iload_n 3, 1) := by decide +kernel
theorem dL_law_192 : decode cL_law 192 = .ok (.iconst 2, 1) := by decide +kernel
theorem dL_law_193 : decode cL_law 193 = .ok (.iadd, 1) := by decide +kernel
theorem dL_law_194 : decode cL_law 194 = .ok (.iaload, 1) := by decide +kernel
theorem dL_law_195 : decode cL_law 195 = .ok (.invokevirtual 32, 3) := by decide +kernel
theorem dL_law_198 : decode cL_law 198 = .ok (.aload_n 2, 1) := by decide +kernel
theorem dL_law_199 : decode cL_law 199 = .ok (.aload_n 0, 1) := by decide +kernel
theorem dL_law_200 : decode cL_law 200 = .ok (.iload_n 3, 1) := by decide +kernel
theorem dL_law_201 : decode cL_law 201 = .ok (.iconst 1, 1) := by decide +kernel
theorem dL_law_202 : decode cL_law 202 = .ok (.iadd, 1) := by decide +kernel
theorem dL_law_203 : decode cL_law 203 = .ok (.iaload, 1) := by decide +kernel
theorem dL_law_204 : decode cL_law 204 = .ok (.aload_n 0, 1) := by decide +kernel
theorem dL_law_205 : decode cL_law 205 = .ok (.iload_n 3, 1) := by decide +kernel
theorem dL_law_206 : decode cL_law 206 = .ok (.iconst 2, 1) := by decide +kernel
theorem dL_law_207 : decode cL_law 207 = .ok (.iadd, 1) := by decide +kernel
theorem dL_law_208 : decode cL_law 208 = .ok (.iaload, 1) := by decide +kernel
theorem dL_law_209 : decode cL_law 209 = .ok (.invokevirtual 36, 3) := by decide +kernel
theorem dL_law_212 : decode cL_law 212 = .ok (.if_icmp .eq 51, 3) := by decide +kernel
theorem dL_law_215 : decode cL_law 215 = .ok (.iconst 0, 1) := by decide +kernel
theorem dL_law_216 : decode cL_law 216 = .ok (.ireturn, 1) := by decide +kernel
theorem dL_law_217 : decode cL_law 217 = .ok (.aload_n 1, 1) := by decide +kernel
theorem dL_law_218 : decode cL_law 218 = .ok (.aload_n 0, 1) := by decide +kernel
theorem dL_law_219 : decode cL_law 219 = .ok (.iload_n 3, 1) := by decide +kernel
theorem dL_law_220 : decode cL_law 220 = .ok (.iconst 1, 1) := by decide +kernel
theorem dL_law_221 : decode cL_law 221 = .ok (.iadd, 1) := by decide +kernel
theorem dL_law_222 : decode cL_law 222 = .ok (.iaload, 1) := by decide +kernel
theorem dL_law_223 : decode cL_law 223 = .ok (.invokevirtual 37, 3) := by decide +kernel
theorem dL_law_226 : decode cL_law 226 = .ok (.aload_n 2, 1) := by decide +kernel
theorem dL_law_227 : decode cL_law 227 = .ok (.aload_n 0, 1) := by decide +kernel
theorem dL_law_228 : decode cL_law 228 = .ok (.iload_n 3, 1) := by decide +kernel
theorem dL_law_229 : decode cL_law 229 = .ok (.iconst 1, 1) := by decide +kernel
theorem dL_law_230 : decode cL_law 230 = .ok (.iadd, 1) := by decide +kernel
theorem dL_law_231 : decode cL_law 231 = .ok (.iaload, 1) := by decide +kernel
theorem dL_law_232 : decode cL_law 232 = .ok (.invokevirtual 41, 3) := by decide +kernel
theorem dL_law_235 : decode cL_law 235 = .ok (.if_icmp .eq 28, 3) := by decide +kernel
theorem dL_law_238 : decode cL_law 238 = .ok (.iconst 0, 1) := by decide +kernel
theorem dL_law_239 : decode cL_law 239 = .ok (.ireturn, 1) := by decide +kernel
theorem dL_law_240 : decode cL_law 240 = .ok (.aload_n 1, 1) := by decide +kernel
theorem dL_law_241 : decode cL_law 241 = .ok (.aload_n 0, 1) := by decide +kernel
theorem dL_law_242 : decode cL_law 242 = .ok (.iload_n 3, 1) := by decide +kernel
theorem dL_law_243 : decode cL_law 243 = .ok (.iconst 1, 1) := by decide +kernel
theorem dL_law_244 : decode cL_law 244 = .ok (.iadd, 1) := by decide +kernel
theorem dL_law_245 : decode cL_law 245 = .ok (.iaload, 1) := by decide +kernel
theorem dL_law_246 : decode cL_law 246 = .ok (.invokevirtual 42, 3) := by decide +kernel
theorem dL_law_249 : decode cL_law 249 = .ok (.aload_n 2, 1) := by decide +kernel
theorem dL_law_250 : decode cL_law 250 = .ok (.aload_n 0, 1) := by decide +kernel
theorem dL_law_251 : decode cL_law 251 = .ok (.iload_n 3, 1) := by decide +kernel
theorem dL_law_252 : decode cL_law 252 = .ok (.iconst 1, 1) := by decide +kernel
theorem dL_law_253 : decode cL_law 253 = .ok (.iadd, 1) := by decide +kernel
theorem dL_law_254 : decode cL_law 254 = .ok (.iaload, 1) := by decide +kernel
theorem dL_law_255 : decode cL_law 255 = .ok (.invokevirtual 45, 3) := by decide +kernel
theorem dL_law_258 : decode cL_law 258 = .ok (.if_icmp .eq 5, 3) := by decide +kernel
theorem dL_law_261 : decode cL_law 261 = .ok (.iconst 0, 1) := by decide +kernel
theorem dL_law_262 : decode cL_law 262 = .ok (.ireturn, 1) := by decide +kernel
theorem dL_law_263 : decode cL_law 263 = .ok (.iinc 3 5, 3) := by decide +kernel
theorem dL_law_266 : decode cL_law 266 = .ok (.goto (-248), 3) := by decide +kernel
theorem dL_law_269 : decode cL_law 269 = .ok (.iconst 1, 1) := by decide +kernel
theorem dL_law_270 : decode cL_law 270 = .ok (.ireturn, 1) := by decide +kernel
end
section
/-! own rows: shorter rows over the kit's -/
section BASE
variable {p : Program} {l : Launch} {e : Env} {R : Room} {s : State} {m : MethodId} {args : Array Value} {below : List Frame} {meth : Method} {c : Code} {H : Heap} {locs : List Loc} {cells slots : Nat} {Q : State → Prop}
variable {cc : ByteArray} {pc : Nat} {ls : Array Slot} {rest : List Value} {D : va_G} {cl : List vw_C} {A : Nat → Prop} {a : Nat} {tys : List (ClassId × FieldType)} {ws : va_W} {H0 : Heap}
theorem tpi {x y : Int32} (h : x = y) (k : W p l e R s m args below meth c H locs cells slots Q (F0 m pc ls (.int y :: rest))) : W p l e R s m args below meth c H locs cells slots Q (F0 m pc ls (.int x :: rest)) := by
  rw [h]; exact k
theorem tpl {x y : Int64} (h : x = y) (k : W p l e R s m args below meth c H locs cells slots Q (F0 m pc ls (.long y :: rest))) : W p l e R s m args below meth c H locs cells slots Q (F0 m pc ls (.long x :: rest)) := by
  rw [h]; exact k
theorem n_add (hx : p.tables.exec = Jvm.exec) (hb : c.code = cc) {x y : Nat} (hdg : decode cc pc = .ok (.iadd, 1)) (k : W p l e R s m args below meth c H locs cells slots Q (F0 m (pc + 1) ls (.int (nI (x + y)) :: rest))) : W p l e R s m args below meth c H locs cells slots Q (F0 m pc ls (.int (nI y) :: .int (nI x) :: rest)) := lv_iadd hx hb hdg (tpi (nI_add x y) k)
theorem n_sub (hx : p.tables.exec = Jvm.exec) (hb : c.code = cc) {x y : Nat} (h : y ≤ x) (hdg : decode cc pc = .ok (.isub, 1)) (k : W p l e R s m args below meth c H locs cells slots Q (F0 m (pc + 1) ls (.int (nI (x - y)) :: rest))) : W p l e R s m args below meth c H locs cells slots Q (F0 m pc ls (.int (nI y) :: .int (nI x) :: rest)) := lv_isub hx hb hdg (tpi (pk_sub h) k)
theorem n_mul (hx : p.tables.exec = Jvm.exec) (hb : c.code = cc) {x y : Nat} (hdg : decode cc pc = .ok (.imul, 1)) (k : W p l e R s m args below meth c H locs cells slots Q (F0 m (pc + 1) ls (.int (nI (x * y)) :: rest))) : W p l e R s m args below meth c H locs cells slots Q (F0 m pc ls (.int (nI y) :: .int (nI x) :: rest)) := lv_imul hx hb hdg (tpi (pk_mul x y) k)
theorem n_div (hx : p.tables.exec = Jvm.exec) (hb : c.code = cc) {x y : Nat} (h1 : x < 2 ^ 31) (h2 : 0 < y) (h3 : y < 2 ^ 31) (hdg : decode cc pc = .ok (.idiv, 1)) (k : W p l e R s m args below meth c H locs cells slots Q (F0 m (pc + 1) ls (.int (nI (x / y)) :: rest))) : W p l e R s m args below meth c H locs cells slots Q (F0 m pc ls (.int (nI y) :: .int (nI x) :: rest)) := lv_idiv hx hb hdg (nI_ne0 h2 h3) (tpi (pk_div h1 h2 h3) k)
theorem n_rem (hx : p.tables.exec = Jvm.exec) (hb : c.code = cc) {x y : Nat} (h1 : x < 2 ^ 31) (h2 : 0 < y) (h3 : y < 2 ^ 31) (hdg : decode cc pc = .ok (.irem, 1)) (k : W p l e R s m args below meth c H locs cells slots Q (F0 m (pc + 1) ls (.int (nI (x % y)) :: rest))) : W p l e R s m args below meth c H locs cells slots Q (F0 m pc ls (.int (nI y) :: .int (nI x) :: rest)) := lv_irem hx hb hdg (nI_ne0 h2 h3) (tpi (pk_rem h1 h2 h3) k)
theorem n_ge (hx : p.tables.exec = Jvm.exec) (hb : c.code = cc) {x y : Nat} {off : Int} {tgt : Nat} (h1 : x < 2 ^ 31) (h2 : y < 2 ^ 31) (hdg : decode cc pc = .ok (.if_icmp .ge off, 3)) (ht : (pc : Int) + off = (tgt : Int))
    (kt : y ≤ x → W p l e R s m args below meth c H locs cells slots Q (F0 m tgt ls rest)) (kf : x < y → W p l e R s m args below meth c H locs cells slots Q (F0 m (pc + 3) ls rest)) : W p l e R s m args below meth c H locs cells slots Q (F0 m pc ls (.int (nI y) :: .int (nI x) :: rest)) :=
  lv_icmp_ge hx hb hdg ht (fun h => kt ((nI_leI h2 h1).mp h)) (fun h => kf (Nat.not_le.mp (fun q => h ((nI_leI h2 h1).mpr q))))
theorem n_le (hx : p.tables.exec = Jvm.exec) (hb : c.code = cc) {x y : Nat} {off : Int} {tgt : Nat} (h1 : x < 2 ^ 31) (h2 : y < 2 ^ 31) (hdg : decode cc pc = .ok (.if_icmp .le off, 3)) (ht : (pc : Int) + off = (tgt : Int))
    (kt : x ≤ y → W p l e R s m args below meth c H locs cells slots Q (F0 m tgt ls rest)) (kf : y < x → W p l e R s m args below meth c H locs cells slots Q (F0 m (pc + 3) ls rest)) : W p l e R s m args below meth c H locs cells slots Q (F0 m pc ls (.int (nI y) :: .int (nI x) :: rest)) :=
  lv_icmp_le hx hb hdg ht (fun h => kt ((nI_leI h1 h2).mp h)) (fun h => kf (Nat.not_le.mp (fun q => h ((nI_leI h1 h2).mpr q))))
theorem n_ne (hx : p.tables.exec = Jvm.exec) (hb : c.code = cc) {x y : Nat} {off : Int} {tgt : Nat} (h1 : x < 2 ^ 31) (h2 : y < 2 ^ 31) (hdg : decode cc pc = .ok (.if_icmp .ne off, 3)) (ht : (pc : Int) + off = (tgt : Int))
    (kt : ¬ x = y → W p l e R s m args below meth c H locs cells slots Q (F0 m tgt ls rest)) (kf : x = y → W p l e R s m args below meth c H locs cells slots Q (F0 m (pc + 3) ls rest)) : W p l e R s m args below meth c H locs cells slots Q (F0 m pc ls (.int (nI y) :: .int (nI x) :: rest)) :=
  lv_icmp_ne hx hb hdg ht (fun h => kt (fun q => h ((nI_eq h1 h2).mpr q))) (fun h => kf ((nI_eq h1 h2).mp h))
theorem nI_is0 {x : Nat} (h1 : x < 2 ^ 31) : nI x = 0 ↔ x = 0 := by
  have h := nI_eq (a := x) (b := 0) h1 (by decide)
  rw [nI_0] at h
  exact h
theorem n_ifeq (hx : p.tables.exec = Jvm.exec) (hb : c.code = cc) {x : Nat} {off : Int} {tgt : Nat} (h1 : x < 2 ^ 31) (hdg : decode cc pc = .ok (.ifCond .eq off, 3)) (ht : (pc : Int) + off = (tgt : Int))
    (kt : x = 0 → W p l e R s m args below meth c H locs cells slots Q (F0 m tgt ls rest)) (kf : ¬ x = 0 → W p l e R s m args below meth c H locs cells slots Q (F0 m (pc + 3) ls rest)) : W p l e R s m args below meth c H locs cells slots Q (F0 m pc ls (.int (nI x) :: rest)) :=
  lv_if_eq hx hb hdg ht (fun h => kt ((nI_is0 h1).mp h)) (fun h => kf (fun q => h ((nI_is0 h1).mpr q)))
theorem n_ifne (hx : p.tables.exec = Jvm.exec) (hb : c.code = cc) {x : Nat} {off : Int} {tgt : Nat} (h1 : x < 2 ^ 31) (hdg : decode cc pc = .ok (.ifCond .ne off, 3)) (ht : (pc : Int) + off = (tgt : Int))
    (kt : ¬ x = 0 → W p l e R s m args below meth c H locs cells slots Q (F0 m tgt ls rest)) (kf : x = 0 → W p l e R s m args below meth c H locs cells slots Q (F0 m (pc + 3) ls rest)) : W p l e R s m args below meth c H locs cells slots Q (F0 m pc ls (.int (nI x) :: rest)) :=
  lv_if_ne hx hb hdg ht (fun h => kt (fun q => h ((nI_is0 h1).mpr q))) (fun h => kf ((nI_is0 h1).mp h))
theorem n_ifle (hx : p.tables.exec = Jvm.exec) (hb : c.code = cc) {x : Nat} {off : Int} {tgt : Nat} (h1 : x < 2 ^ 31) (hdg : decode cc pc = .ok (.ifCond .le off, 3)) (ht : (pc : Int) + off = (tgt : Int))
    (kt : x = 0 → W p l e R s m args below meth c H locs cells slots Q (F0 m tgt ls rest)) (kf : 0 < x → W p l e R s m args below meth c H locs cells slots Q (F0 m (pc + 3) ls rest)) : W p l e R s m args below meth c H locs cells slots Q (F0 m pc ls (.int (nI x) :: rest)) := by
  refine lv_if_le hx hb hdg ht (fun h => kt ?_) (fun h => kf ?_)
  · rcases Nat.eq_zero_or_pos x with q | q
    · exact q
    · exact absurd h (nI_nle q h1)
  · rcases Nat.eq_zero_or_pos x with q | q
    · exact absurd (by rw [q, nI_0]; decide) h
    · exact q
/-- arrays: what is held depends on the places below the length alone -/
theorem arr_eq {cA : ClassId} {n : Nat} {f g : Nat → Int32} (h : ∀ j, j < n → f j = g j) : vp_cell cA (n, .inl f) = vp_cell cA (n, .inl g) := by
  show arrV cA n (fun j => Value.int (f j)) = arrV cA n (fun j => Value.int (g j))
  unfold arrV
  congr 2
  funext j
  exact congrArg Value.int (h j.val j.isLt)
theorem arrL_eq {cA : ClassId} {n : Nat} {f g : Nat → Int64} (h : ∀ j, j < n → f j = g j) : vp_cell cA (n, .inr (.inl f)) = vp_cell cA (n, .inr (.inl g)) := by
  show arrV cA n (fun j => Value.long (f j)) = arrV cA n (fun j => Value.long (g j))
  unfold arrV
  congr 2
  funext j
  exact congrArg Value.long (h j.val j.isLt)
theorem P_set {q0 : Nat} {e1 e2 : va_E} (hP : va_P D cl (ws.set q0 (a, e1)) H) (h : va_at D cl (a, e1) H → va_at D cl (a, e2) H) : va_P D cl (ws.set q0 (a, e2)) H := by
  intro k q hk
  have h0 := hP k
  rw [List.getElem?_set] at hk h0
  by_cases hq : q0 = k
  · rw [if_pos hq] at hk h0
    by_cases hl : q0 < ws.length
    · rw [if_pos hl] at hk h0
      cases hk
      exact h (h0 _ rfl)
    · rw [if_neg hl] at hk
      cases hk
  · rw [if_neg hq] at hk h0
    exact h0 q hk
theorem P_self {q0 : Nat} {e1 : va_E} (hP : va_P D cl ws H) (ha : ws[q0]? = some (a, e1)) : va_P D cl (ws.set q0 (a, e1)) H := by
  intro k q hk
  rw [List.getElem?_set] at hk
  by_cases hq : q0 = k
  · rw [if_pos hq] at hk
    by_cases hl : q0 < ws.length
    · rw [if_pos hl] at hk
      cases hk
      exact hP q0 _ ha
    · rw [if_neg hl] at hk
      cases hk
  · rw [if_neg hq] at hk
    exact hP k q hk
/-- another function for an array that holds the same -/
theorem P_fn (hP : va_P D cl ws H) (hD : va_D A ws) (q0 : Nat) {cA : ClassId} {n : Nat} {f : Nat → Int32} (g : Nat → Int32) (ha : ws[q0]? = some (a, .inl (cA, n, .inl f))) (hg : ∀ j, j < n → f j = g j) {ws' : va_W} (hws : ws.set q0 (a, .inl (cA, n, .inl g)) = ws') : va_P D cl ws' H ∧ va_D A ws' := by
  subst hws
  exact ⟨P_set (P_self hP ha) (fun h => by
    have h2 : H[a]? = some (vp_cell cA (n, .inl f)) := h
    show H[a]? = some (vp_cell cA (n, .inl g))
    rw [h2, arr_eq hg]), hD.set ha⟩
theorem P_fnL (hP : va_P D cl ws H) (hD : va_D A ws) (q0 : Nat) {cA : ClassId} {n : Nat} {f : Nat → Int64} (g : Nat → Int64) (ha : ws[q0]? = some (a, .inl (cA, n, .inr (.inl f)))) (hg : ∀ j, j < n → f j = g j) {ws' : va_W} (hws : ws.set q0 (a, .inl (cA, n, .inr (.inl g))) = ws') : va_P D cl ws' H ∧ va_D A ws' := by
  subst hws
  exact ⟨P_set (P_self hP ha) (fun h => by
    have h2 : H[a]? = some (vp_cell cA (n, .inr (.inl f))) := h
    show H[a]? = some (vp_cell cA (n, .inr (.inl g)))
    rw [h2, arrL_eq hg]), hD.set ha⟩
theorem n_iald (hx : p.tables.exec = Jvm.exec) (hb : c.code = cc) (hK : va_K D cl tys s) (hP : va_P D cl ws H) (q0 t0 : Nat) {cA : ClassId} {n : Nat} {f : Nat → Int32} (ha : ws[q0]? = some (a, .inl (cA, n, .inl f))) (ht : tys[t0]? = some (cA, .int)) {i : Nat} (hi : i < n) (hn : n < 2 ^ 31) {v : Int32} (hv : f i = v) (hdg : decode cc pc = .ok (.iaload, 1))
    (kk : W p l e R s m args below meth c H locs cells slots Q (F0 m (pc + 1) ls (.int v :: rest))) : W p l e R s m args below meth c H locs cells slots Q (F0 m pc ls (.int (nI i) :: .ref a :: rest)) :=
  va_iald hx hb hK hP q0 t0 ha ht (vp_in_nI hi hn) hdg (by rw [nI_clamp (Nat.lt_trans hi hn), hv]; exact kk)
theorem n_bald (hx : p.tables.exec = Jvm.exec) (hb : c.code = cc) (hK : va_K D cl tys s) (hP : va_P D cl ws H) (q0 t0 : Nat) {cA : ClassId} {n : Nat} {f : Nat → Int32} (ha : ws[q0]? = some (a, .inl (cA, n, .inl f))) (ht : tys[t0]? = some (cA, .byte)) {i : Nat} (hi : i < n) (hn : n < 2 ^ 31) {v : Int32} (hv : f i = v) (hdg : decode cc pc = .ok (.baload, 1))
    (kk : W p l e R s m args below meth c H locs cells slots Q (F0 m (pc + 1) ls (.int v :: rest))) : W p l e R s m args below meth c H locs cells slots Q (F0 m pc ls (.int (nI i) :: .ref a :: rest)) :=
  va_bald hx hb hK hP q0 t0 ha ht (vp_in_nI hi hn) hdg (by rw [nI_clamp (Nat.lt_trans hi hn), hv]; exact kk)
theorem n_lald (hx : p.tables.exec = Jvm.exec) (hb : c.code = cc) (hK : va_K D cl tys s) (hP : va_P D cl ws H) (q0 t0 : Nat) {cA : ClassId} {n : Nat} {f : Nat → Int64} (ha : ws[q0]? = some (a, .inl (cA, n, .inr (.inl f)))) (ht : tys[t0]? = some (cA, .long)) {i : Nat} (hi : i < n) (hn : n < 2 ^ 31) {v : Int64} (hv : f i = v) (hdg : decode cc pc = .ok (.laload, 1))
    (kk : W p l e R s m args below meth c H locs cells slots Q (F0 m (pc + 1) ls (.long v :: rest))) : W p l e R s m args below meth c H locs cells slots Q (F0 m pc ls (.int (nI i) :: .ref a :: rest)) :=
  va_lald hx hb hK hP q0 t0 ha ht (vp_in_nI hi hn) hdg (by rw [nI_clamp (Nat.lt_trans hi hn), hv]; exact kk)
theorem n_iast (hx : p.tables.exec = Jvm.exec) (hb : c.code = cc) (hK : va_K D cl tys s) (hP : va_P D cl ws H) (hD : va_D A ws) (hS : va_S A H0 H locs) (q0 t0 : Nat) {cA : ClassId} {n : Nat} {f : Nat → Int32} (g : Nat → Int32) (ha : ws[q0]? = some (a, .inl (cA, n, .inl f))) (ht : tys[t0]? = some (cA, .int)) {i : Nat} {x : Int32} (hi : i < n) (hn : n < 2 ^ 31) (hg : ∀ j, j < n → upd f i x j = g j) {ws' : va_W} (hws : ws.set q0 (a, .inl (cA, n, .inl g)) = ws') (hdg : decode cc pc = .ok (.iastore, 1))
    (kk : ∀ (H1 : Heap) (locs1 : List Loc), va_P D cl ws' H1 → va_D A ws' → va_S A H0 H1 locs1 → W p l e R s m args below meth c H1 locs1 cells slots Q (F0 m (pc + 1) ls rest)) : W p l e R s m args below meth c H locs cells slots Q (F0 m pc ls (.int x :: .int (nI i) :: .ref a :: rest)) := by
  subst hws
  refine va_iast hx hb hK hP hD hS q0 t0 ha ht (vp_in_nI hi hn) hdg (fun H1 locs1 hP1 hD1 hS1 => ?_)
  rw [nI_clamp (Nat.lt_trans hi hn)] at hP1
  exact kk H1 locs1 (P_set hP1 (fun h => by
    have h2 : H1[a]? = some (vp_cell cA (n, .inl (upd f i x))) := h
    show H1[a]? = some (vp_cell cA (n, .inl g))
    rw [h2, arr_eq hg])) (hD.set ha) hS1
theorem n_bast (hx : p.tables.exec = Jvm.exec) (hb : c.code = cc) (hK : va_K D cl tys s) (hP : va_P D cl ws H) (hD : va_D A ws) (hS : va_S A H0 H locs) (q0 t0 : Nat) {cA : ClassId} {n : Nat} {f : Nat → Int32} (g : Nat → Int32) (ha : ws[q0]? = some (a, .inl (cA, n, .inl f))) (ht : tys[t0]? = some (cA, .byte)) {i : Nat} {x : Int32} (hi : i < n) (hn : n < 2 ^ 31) (hg : ∀ j, j < n → upd f i x.toInt8.toInt32 j = g j) {ws' : va_W} (hws : ws.set q0 (a, .inl (cA, n, .inl g)) = ws') (hdg : decode cc pc = .ok (.bastore, 1))
    (kk : ∀ (H1 : Heap) (locs1 : List Loc), va_P D cl ws' H1 → va_D A ws' → va_S A H0 H1 locs1 → W p l e R s m args below meth c H1 locs1 cells slots Q (F0 m (pc + 1) ls rest)) : W p l e R s m args below meth c H locs cells slots Q (F0 m pc ls (.int x :: .int (nI i) :: .ref a :: rest)) := by
  subst hws
  refine va_bast hx hb hK hP hD hS q0 t0 ha ht (vp_in_nI hi hn) hdg (fun H1 locs1 hP1 hD1 hS1 => ?_)
  rw [nI_clamp (Nat.lt_trans hi hn), vp_nar_byte] at hP1
  exact kk H1 locs1 (P_set hP1 (fun h => by
    have h2 : H1[a]? = some (vp_cell cA (n, .inl (upd f i x.toInt8.toInt32))) := h
    show H1[a]? = some (vp_cell cA (n, .inl g))
    rw [h2, arr_eq hg])) (hD.set ha) hS1
theorem n_last (hx : p.tables.exec = Jvm.exec) (hb : c.code = cc) (hK : va_K D cl tys s) (hP : va_P D cl ws H) (hD : va_D A ws) (hS : va_S A H0 H locs) (q0 t0 : Nat) {cA : ClassId} {n : Nat} {f : Nat → Int64} (g : Nat → Int64) (ha : ws[q0]? = some (a, .inl (cA, n, .inr (.inl f)))) (ht : tys[t0]? = some (cA, .long)) {i : Nat} {x : Int64} (hi : i < n) (hn : n < 2 ^ 31) (hg : ∀ j, j < n → vp_updL f i x j = g j) {ws' : va_W} (hws : ws.set q0 (a, .inl (cA, n, .inr (.inl g))) = ws') (hdg : decode cc pc = .ok (.lastore, 1))
    (kk : ∀ (H1 : Heap) (locs1 : List Loc), va_P D cl ws' H1 → va_D A ws' → va_S A H0 H1 locs1 → W p l e R s m args below meth c H1 locs1 cells slots Q (F0 m (pc + 1) ls rest)) : W p l e R s m args below meth c H locs cells slots Q (F0 m pc ls (.long x :: .int (nI i) :: .ref a :: rest)) := by
  subst hws
  refine va_last hx hb hK hP hD hS q0 t0 ha ht (vp_in_nI hi hn) hdg (fun H1 locs1 hP1 hD1 hS1 => ?_)
  rw [nI_clamp (Nat.lt_trans hi hn)] at hP1
  exact kk H1 locs1 (P_set hP1 (fun h => by
    have h2 : H1[a]? = some (vp_cell cA (n, .inr (.inl (vp_updL f i x)))) := h
    show H1[a]? = some (vp_cell cA (n, .inr (.inl g)))
    rw [h2, arrL_eq hg])) (hD.set ha) hS1
end BASE
/-! contracts: the forms that every method here has -/
def tyl (ca : Nat → ClassId) : List (ClassId × FieldType) := [(ca 0, .int), (ca 1, .byte), (ca 2, .long)]
abbrev prW (D : va_G) (ca : Nat → ClassId) (ws : va_W) (sz : Nat) (U : State) : Prop := U.heap.size = sz ∧ va_P D vwCl ws U.heap ∧ va_K D vwCl (tyl ca) U ∧ va_D (fun _ => True) ws
abbrev poW (D : va_G) (ca : Nat → ClassId) (A : Nat → Prop) {S : Type} (w : S → va_W) (u : S) (t : State) : Prop := va_P D vwCl (w u) t.heap ∧ va_K D vwCl (tyl ca) t ∧ va_D A (w u)
abbrev noX : (Nat → Prop) → State → Prop := fun _ _ => True
/-- a void method -/
def MV (l : Launch) (y : MethodName) (cd : ByteArray) (L : Nat) (rm : Room) (D : va_G) (ca : Nat → ClassId) (X : (Nat → Prop) → State → Prop) (av : List Value) (ws : va_W) {S : Type} (post : S → Prop) (w : S → va_W) (mc ms : Nat) : Prop :=
  ∀ sz : Nat, Met l y (ws_ y cd L none) rm (va_Pc av (fun U => prW D ca ws sz U ∧ X (va_A ws sz) U)) (va_Qv post (poW D ca (va_A ws sz) w) (va_A ws sz)) mc ms (va_A ws sz)
/-- a method that answers an int or a boolean -/
def MI (l : Launch) (y : MethodName) (cd : ByteArray) (L : Nat) (ret : FieldType) (rm : Room) (D : va_G) (ca : Nat → ClassId) (X : (Nat → Prop) → State → Prop) (av : List Value) (ws : va_W) {S : Type} (post : Int32 → S → Prop) (w : S → va_W) (mc ms : Nat) : Prop :=
  ∀ sz : Nat, Met l y (ws_ y cd L (some ret)) rm (va_Pc av (fun U => prW D ca ws sz U ∧ X (va_A ws sz) U)) (va_Qi post (poW D ca (va_A ws sz) w) (va_A ws sz)) mc ms (va_A ws sz)
/-- static methods without a world: an int, a long -/
def SI (l : Launch) (y : MethodName) (cd : ByteArray) (L : Nat) (rm : Room) (av : List Value) (v : Int32) : Prop :=
  ∀ sz : Nat, Met l y (ws_ y cd L (some .int)) rm (va_Pc av (fun U => U.heap.size = sz)) (va_Qi (fun r (_ : Unit) => r = v) (fun _ _ => True) (fun q => sz ≤ q)) 0 0 (fun q => sz ≤ q)
def SL (l : Launch) (y : MethodName) (cd : ByteArray) (L : Nat) (rm : Room) (av : List Value) (v : Int64) : Prop :=
  ∀ sz : Nat, Met l y (ws_ y cd L (some .long)) rm (va_Pc av (fun U => U.heap.size = sz)) (va_Ql (fun r (_ : Unit) => r = v) (fun _ _ => True) (fun q => sz ≤ q)) 0 0 (fun q => sz ≤ q)
theorem P_take {D : va_G} {cl : List vw_C} {ws wc : va_W} {H : Heap} (hP : va_P D cl ws H) (isC : List Nat) (hC : isC.map (fun i => ws[i]?) = wc.map some) : va_P D cl wc H := by
  intro k q hk
  have h1 : (isC.map (fun i => ws[i]?))[k]? = some (some q) := by rw [hC, List.getElem?_map, hk]; rfl
  rw [List.getElem?_map] at h1
  cases hi : isC[k]? with
  | none => rw [hi] at h1; cases h1
  | some i =>
    rw [hi] at h1
    exact hP i q (Option.some.inj h1)
section CALLS
variable {p : Program} {l : Launch} {e : Env} {R : Room} {s : State} {m : MethodId} {args : Array Value} {below : List Frame} {meth : Method} {c : Code} {H : Heap} {locs : List Loc} {cells slots : Nat} {Q : State → Prop}
variable {cc cd : ByteArray} {pc : Nat} {ls : Array Slot} {rest st As : List Value} {D : va_G} {A : Nat → Prop} {ws wc wr : va_W} {y : MethodName} {L nL mc ms n index q0 ci b : Nat} {rm : Room} {own C : String} {ca : Nat → ClassId} {X : (Nat → Prop) → State → Prop} {S : Type} {w : S → va_W} {fs : List Value} {qc : vw_C} {ret : FieldType}
theorem cVv {post : S → Prop} (Fx : CallFix p m c cc nL s args lw_all own) (hM : MV l y cd L rm D ca X (.ref b :: As) wc post w mc ms) (cw : CallW R s args own C index y cd L none (ws_ y cd L none) rm mc ms n)
    (hK : va_K D vwCl (tyl ca) s) (hP : va_P D vwCl ws H) (hD : va_D A ws) (hS : va_S A s.heap H locs) (hA : ∀ q, s.heap.size ≤ q → A q)
    (isC isR : List Nat) (hC : isC.map (fun i => ws[i]?) = wc.map some) (hR : isR.map (fun i => ws[i]?) = wr.map some) (hnC : va_nd isC = true) (hn : va_nd isR = true) (hdis : ∀ i ∈ isR, i ∉ isC)
    (q0 ci : Nat) (hci : vwCl[ci]? = some qc) (hq0 : wc[q0]? = some (b, .inr (ci, fs))) (hqC : qc.1 = C)
    (hXb : ∀ (B : Nat → Prop) (U : State) (g : JFrame) (mk : MethodId) (a : Array Value), X B U → X B (U.calling g mk a)) (hXc : ∀ U : State, U.heap = H → s.WarmedH U.vm → X (va_A wc H.size) U)
    (hlen : As.length = n) (hsize : ls.size = nL) (hst : st = As.reverse ++ .ref b :: rest) (hW : (rest.map fun v => v.category).sum ≤ 8) (hdg : decode cc pc = .ok (.invokevirtual index, 3)) (hf : cells + mc ≤ R.cells ∧ slots + ms ≤ R.slots)
    (kk : ∀ (u : S) (H1 : Heap) (locs1 : List Loc), post u → va_P D vwCl (wr ++ w u) H1 → va_D A (wr ++ w u) → va_S A s.heap H1 locs1 → W p l e R s m args below meth c H1 locs1 (cells + mc) (slots + ms) Q (F0 m (pc + 3) ls rest)) : W p l e R s m args below meth c H locs cells slots Q (F0 m pc ls st) := by
  subst hst
  have hPc := P_take hP isC hC
  have hDc := hD.sub isC hnC hC
  have hFc := va_free (wc := wc) hD hS hA isC hC
  refine va_callv (va_runV (As := As) (rest := rest) Fx (hM H.size) cw ⟨fun a U g mk q => ?_, ?_, fun U hU hW => ?_⟩ rfl hlen hsize rfl (lv_room hW) hdg hf) hS (fun q _ h => hFc q h) hFc (fun u t H1 locs ht hvm hw1 hB hz1 hk1 hS => ?_)
  · obtain ⟨q0, ⟨q1, qP, qK, qD⟩, qX⟩ := q
    exact ⟨q0, ⟨q1, qP, va_K.moved (u := U) (U := U.calling g mk a) (Vm.Alike.refl U.vm) qK, qD⟩, hXb _ _ _ _ _ qX⟩
  · rw [← hqC]; exact va_recv hK hPc hci hq0
  · exact ⟨rfl, ⟨by rw [hU], by rw [hU]; exact hPc, va_K.moved hW.alike hK, hDc.weaken (fun _ _ _ _ => trivial)⟩, hXc U hU hW⟩
  · obtain ⟨hP1, hK1, hD1⟩ := hB
    rw [ht] at hP1
    obtain ⟨hP2, hD2⟩ := va_join (wr := wr) (w1 := w u) hP hD isC isR hC hR hn hdis hk1 hFc hP1 hD1
    exact kk u H1 locs hw1 hP2 hD2 hS
theorem cVi {post : Int32 → S → Prop} (Fx : CallFix p m c cc nL s args lw_all own) (hM : MI l y cd L ret rm D ca X (.ref b :: As) wc post w mc ms) (cw : CallW R s args own C index y cd L (some ret) (ws_ y cd L (some ret)) rm mc ms n)
    (hK : va_K D vwCl (tyl ca) s) (hP : va_P D vwCl ws H) (hD : va_D A ws) (hS : va_S A s.heap H locs) (hA : ∀ q, s.heap.size ≤ q → A q)
    (isC isR : List Nat) (hC : isC.map (fun i => ws[i]?) = wc.map some) (hR : isR.map (fun i => ws[i]?) = wr.map some) (hnC : va_nd isC = true) (hn : va_nd isR = true) (hdis : ∀ i ∈ isR, i ∉ isC)
    (q0 ci : Nat) (hci : vwCl[ci]? = some qc) (hq0 : wc[q0]? = some (b, .inr (ci, fs))) (hqC : qc.1 = C)
    (hXb : ∀ (B : Nat → Prop) (U : State) (g : JFrame) (mk : MethodId) (a : Array Value), X B U → X B (U.calling g mk a)) (hXc : ∀ U : State, U.heap = H → s.WarmedH U.vm → X (va_A wc H.size) U)
    (hlen : As.length = n) (hsize : ls.size = nL) (hst : st = As.reverse ++ .ref b :: rest) (hW : (rest.map fun v => v.category).sum ≤ 8) (hdg : decode cc pc = .ok (.invokevirtual index, 3)) (hf : cells + mc ≤ R.cells ∧ slots + ms ≤ R.slots)
    (kk : ∀ (r : Int32) (u : S) (H1 : Heap) (locs1 : List Loc), post r u → va_P D vwCl (wr ++ w u) H1 → va_D A (wr ++ w u) → va_S A s.heap H1 locs1 → W p l e R s m args below meth c H1 locs1 (cells + mc) (slots + ms) Q (F0 m (pc + 3) ls (.int r :: rest))) : W p l e R s m args below meth c H locs cells slots Q (F0 m pc ls st) := by
  subst hst
  have hPc := P_take hP isC hC
  have hDc := hD.sub isC hnC hC
  have hFc := va_free (wc := wc) hD hS hA isC hC
  refine va_calli (va_runV (As := As) (rest := rest) Fx (hM H.size) cw ⟨fun a U g mk q => ?_, ?_, fun U hU hW => ?_⟩ rfl hlen hsize rfl (lv_room hW) hdg hf) hS (fun q _ h => hFc q h) hFc (fun r u t H1 locs ht hvm hw1 hB hz1 hk1 hS => ?_)
  · obtain ⟨q0, ⟨q1, qP, qK, qD⟩, qX⟩ := q
    exact ⟨q0, ⟨q1, qP, va_K.moved (u := U) (U := U.calling g mk a) (Vm.Alike.refl U.vm) qK, qD⟩, hXb _ _ _ _ _ qX⟩
  · rw [← hqC]; exact va_recv hK hPc hci hq0
  · exact ⟨rfl, ⟨by rw [hU], by rw [hU]; exact hPc, va_K.moved hW.alike hK, hDc.weaken (fun _ _ _ _ => trivial)⟩, hXc U hU hW⟩
  · obtain ⟨hP1, hK1, hD1⟩ := hB
    rw [ht] at hP1
    obtain ⟨hP2, hD2⟩ := va_join (wr := wr) (w1 := w u) hP hD isC isR hC hR hn hdis hk1 hFc hP1 hD1
    exact kk r u H1 locs hw1 hP2 hD2 hS
theorem cIv {post : S → Prop} (Fx : CallFix p m c cc nL s args lw_all own) (hM : MV l y cd L rm D ca X (.ref b :: As) wc post w mc ms) (cw : CallB R s args own index y cd L none (ws_ y cd L none) rm mc ms n ∧ y.name = "<init>" ∧ (Cond.instanceMethod y).before args s = true)
    (hK : va_K D vwCl (tyl ca) s) (hP : va_P D vwCl ws H) (hD : va_D A ws) (hS : va_S A s.heap H locs) (hA : ∀ q, s.heap.size ≤ q → A q)
    (isC isR : List Nat) (hC : isC.map (fun i => ws[i]?) = wc.map some) (hR : isR.map (fun i => ws[i]?) = wr.map some) (hnC : va_nd isC = true) (hn : va_nd isR = true) (hdis : ∀ i ∈ isR, i ∉ isC)
    (hXb : ∀ (B : Nat → Prop) (U : State) (g : JFrame) (mk : MethodId) (a : Array Value), X B U → X B (U.calling g mk a)) (hXc : ∀ U : State, U.heap = H → s.WarmedH U.vm → X (va_A wc H.size) U)
    (hlen : As.length = n) (hsize : ls.size = nL) (hst : st = As.reverse ++ .ref b :: rest) (hW : (rest.map fun v => v.category).sum ≤ 8) (hdg : decode cc pc = .ok (.invokespecial index, 3)) (hf : cells + mc ≤ R.cells ∧ slots + ms ≤ R.slots)
    (kk : ∀ (u : S) (H1 : Heap) (locs1 : List Loc), post u → va_P D vwCl (wr ++ w u) H1 → va_D A (wr ++ w u) → va_S A s.heap H1 locs1 → W p l e R s m args below meth c H1 locs1 (cells + mc) (slots + ms) Q (F0 m (pc + 3) ls rest)) : W p l e R s m args below meth c H locs cells slots Q (F0 m pc ls st) := by
  subst hst
  have hPc := P_take hP isC hC
  have hDc := hD.sub isC hnC hC
  have hFc := va_free (wc := wc) hD hS hA isC hC
  refine va_callv (va_runI (As := As) (rest := rest) Fx (hM H.size) cw ⟨fun a U g mk q => ?_, fun U hU hW => ?_⟩ rfl hlen hsize rfl (lv_room hW) hdg hf) hS (fun q _ h => hFc q h) hFc (fun u t H1 locs ht hvm hw1 hB hz1 hk1 hS => ?_)
  · obtain ⟨q0, ⟨q1, qP, qK, qD⟩, qX⟩ := q
    exact ⟨q0, ⟨q1, qP, va_K.moved (u := U) (U := U.calling g mk a) (Vm.Alike.refl U.vm) qK, qD⟩, hXb _ _ _ _ _ qX⟩
  · exact ⟨rfl, ⟨by rw [hU], by rw [hU]; exact hPc, va_K.moved hW.alike hK, hDc.weaken (fun _ _ _ _ => trivial)⟩, hXc U hU hW⟩
  · obtain ⟨hP1, hK1, hD1⟩ := hB
    rw [ht] at hP1
    obtain ⟨hP2, hD2⟩ := va_join (wr := wr) (w1 := w u) hP hD isC isR hC hR hn hdis hk1 hFc hP1 hD1
    exact kk u H1 locs hw1 hP2 hD2 hS
/-- a nest mate's private constructor -/
theorem cINv {host : String} {post : S → Prop} (Fx : CallFix p m c cc nL s args lw_all own) (hM : MV l y cd L rm D ca X (.ref b :: As) wc post w mc ms) (cw : va_CN R s args own index y host cd L none (ws_ y cd L none) rm mc ms n ∧ y.name = "<init>" ∧ (Cond.instanceMethod y).before args s = true)
    (hK : va_K D vwCl (tyl ca) s) (hP : va_P D vwCl ws H) (hD : va_D A ws) (hS : va_S A s.heap H locs) (hA : ∀ q, s.heap.size ≤ q → A q)
    (isC isR : List Nat) (hC : isC.map (fun i => ws[i]?) = wc.map some) (hR : isR.map (fun i => ws[i]?) = wr.map some) (hnC : va_nd isC = true) (hn : va_nd isR = true) (hdis : ∀ i ∈ isR, i ∉ isC)
    (hXb : ∀ (B : Nat → Prop) (U : State) (g : JFrame) (mk : MethodId) (a : Array Value), X B U → X B (U.calling g mk a)) (hXc : ∀ U : State, U.heap = H → s.WarmedH U.vm → X (va_A wc H.size) U)
    (hlen : As.length = n) (hsize : ls.size = nL) (hst : st = As.reverse ++ .ref b :: rest) (hW : (rest.map fun v => v.category).sum ≤ 8) (hdg : decode cc pc = .ok (.invokespecial index, 3)) (hf : cells + mc ≤ R.cells ∧ slots + ms ≤ R.slots)
    (kk : ∀ (u : S) (H1 : Heap) (locs1 : List Loc), post u → va_P D vwCl (wr ++ w u) H1 → va_D A (wr ++ w u) → va_S A s.heap H1 locs1 → W p l e R s m args below meth c H1 locs1 (cells + mc) (slots + ms) Q (F0 m (pc + 3) ls rest)) : W p l e R s m args below meth c H locs cells slots Q (F0 m pc ls st) := by
  subst hst
  have hPc := P_take hP isC hC
  have hDc := hD.sub isC hnC hC
  have hFc := va_free (wc := wc) hD hS hA isC hC
  refine va_callv (va_runIN (As := As) (rest := rest) Fx (hM H.size) cw ⟨fun a U g mk q => ?_, fun U hU hW => ?_⟩ rfl hlen hsize rfl (lv_room hW) hdg hf) hS (fun q _ h => hFc q h) hFc (fun u t H1 locs ht hvm hw1 hB hz1 hk1 hS => ?_)
  · obtain ⟨q0, ⟨q1, qP, qK, qD⟩, qX⟩ := q
    exact ⟨q0, ⟨q1, qP, va_K.moved (u := U) (U := U.calling g mk a) (Vm.Alike.refl U.vm) qK, qD⟩, hXb _ _ _ _ _ qX⟩
  · exact ⟨rfl, ⟨by rw [hU], by rw [hU]; exact hPc, va_K.moved hW.alike hK, hDc.weaken (fun _ _ _ _ => trivial)⟩, hXc U hU hW⟩
  · obtain ⟨hP1, hK1, hD1⟩ := hB
    rw [ht] at hP1
    obtain ⟨hP2, hD2⟩ := va_join (wr := wr) (w1 := w u) hP hD isC isR hC hR hn hdis hk1 hFc hP1 hD1
    exact kk u H1 locs hw1 hP2 hD2 hS
theorem P_old {cl : List vw_C} {H1 : Heap} (hP : va_P D cl ws H) (hk : ∀ q : Nat, q < H.size → ¬ H.size ≤ q → H1[q]? = H[q]?) : va_P D cl ws H1 :=
  hP.kept (fun k q hq => by
    have hlt := va_at.lt (hP k q hq)
    exact hk q.1 hlt (Nat.not_le.mpr hlt))
/-- a static method without a world -/
theorem cSi {v : Int32} (Fx : CallFix p m c cc nL s args lw_all own) (hM : SI l y cd L rm As v) (cw : CallB R s args own index y cd L (some .int) (ws_ y cd L (some .int)) rm 0 0 n ∧ (Cond.static y).before args s = true)
    (hP : va_P D vwCl ws H) (hS : va_S A s.heap H locs) (hA : ∀ q, s.heap.size ≤ q → A q)
    (hlen : As.length = n) (hsize : ls.size = nL) (hst : st = As.reverse ++ rest) (hW : (rest.map fun v => v.category).sum ≤ 8) (hdg : decode cc pc = .ok (.invokestatic index, 3)) (hf : cells + 0 ≤ R.cells ∧ slots + 0 ≤ R.slots)
    (kk : ∀ (H1 : Heap) (locs1 : List Loc), va_P D vwCl ws H1 → va_S A s.heap H1 locs1 → W p l e R s m args below meth c H1 locs1 cells slots Q (F0 m (pc + 3) ls (.int v :: rest))) : W p l e R s m args below meth c H locs cells slots Q (F0 m pc ls st) := by
  subst hst
  have hFc : ∀ q, H.size ≤ q → A q := fun q h => hA q (Nat.le_trans hS.1 h)
  refine va_calli (va_runS (As := As) (rest := rest) Fx (hM H.size) cw ⟨fun a U g mk q => ?_, fun U hU hW => ?_⟩ rfl hlen hsize rfl (lv_room hW) hdg hf) hS (fun q _ h => hFc q h) hFc (fun r u t H1 locs ht hvm hw1 hB hz1 hk1 hS => ?_)
  · exact q
  · exact ⟨rfl, by show U.heap.size = H.size; rw [hU]⟩
  · rw [hw1]
    exact kk H1 locs (P_old hP hk1) hS
theorem cSl {v : Int64} (Fx : CallFix p m c cc nL s args lw_all own) (hM : SL l y cd L rm As v) (cw : CallB R s args own index y cd L (some .long) (ws_ y cd L (some .long)) rm 0 0 n ∧ (Cond.static y).before args s = true)
    (hP : va_P D vwCl ws H) (hS : va_S A s.heap H locs) (hA : ∀ q, s.heap.size ≤ q → A q)
    (hlen : As.length = n) (hsize : ls.size = nL) (hst : st = As.reverse ++ rest) (hW : (rest.map fun v => v.category).sum ≤ 8) (hdg : decode cc pc = .ok (.invokestatic index, 3)) (hf : cells + 0 ≤ R.cells ∧ slots + 0 ≤ R.slots)
    (kk : ∀ (H1 : Heap) (locs1 : List Loc), va_P D vwCl ws H1 → va_S A s.heap H1 locs1 → W p l e R s m args below meth c H1 locs1 cells slots Q (F0 m (pc + 3) ls (.long v :: rest))) : W p l e R s m args below meth c H locs cells slots Q (F0 m pc ls st) := by
  subst hst
  have hFc : ∀ q, H.size ≤ q → A q := fun q h => hA q (Nat.le_trans hS.1 h)
  refine va_calll (va_runS (As := As) (rest := rest) Fx (hM H.size) cw ⟨fun a U g mk q => ?_, fun U hU hW => ?_⟩ rfl hlen hsize rfl (lv_room hW) hdg hf) hS (fun q _ h => hFc q h) hFc (fun r u t H1 locs ht hvm hw1 hB hz1 hk1 hS => ?_)
  · exact q
  · exact ⟨rfl, by show U.heap.size = H.size; rw [hU]⟩
  · rw [hw1]
    exact kk H1 locs (P_old hP hk1) hS
end CALLS
section ENDS
variable {p : Program} {l : Launch} {e : Env} {R : Room} {s : State} {m : MethodId} {args : Array Value} {below : List Frame} {meth : Method} {c : Code} {H : Heap} {locs : List Loc} {cells slots mc ms : Nat}
variable {cc : ByteArray} {pc : Nat} {ls : Array Slot} {D : va_G} {A : Nat → Prop} {ca : Nat → ClassId} {S : Type} {w : S → va_W}
theorem vend {post : S → Prop} (hx : p.tables.exec = Jvm.exec) (hb : c.code = cc) (hr : meth.sig.returnType = none) (hlk : meth.locks = false) (u : S) (hp : post u) (hP : va_P D vwCl (w u) H) (hK : va_K D vwCl (tyl ca) s) (hD : va_D A (w u)) (hS : va_S A s.heap H locs) (hc : cells ≤ mc) (hs : slots ≤ ms) (hdg : decode cc pc = .ok (.return_, 1)) : W p l e R s m args below meth c H locs cells slots (MQ below (va_Qv post (poW D ca A w) A) args s mc ms A) (F0 m pc ls []) :=
  W.widen hc hs (W.vret hx hb hr (fun t ht hW => ⟨⟨u, rfl, hp, by rw [ht]; exact hP, va_K.moved hW.alike hK, hD⟩, hS.F ht⟩) hS.2.2 hdg hlk)
theorem iend {post : Int32 → S → Prop} {v : Int32} (hx : p.tables.exec = Jvm.exec) (hb : c.code = cc) (hr : meth.sig.returnType = some .int) (hlk : meth.locks = false) (u : S) (hp : post v u) (hP : va_P D vwCl (w u) H) (hK : va_K D vwCl (tyl ca) s) (hD : va_D A (w u)) (hS : va_S A s.heap H locs) (hc : cells ≤ mc) (hs : slots ≤ ms) (hdg : decode cc pc = .ok (.ireturn, 1)) : W p l e R s m args below meth c H locs cells slots (MQ below (va_Qi post (poW D ca A w) A) args s mc ms A) (F0 m pc ls [.int v]) :=
  W.widen hc hs (W.iret hx hb hr (fun t ht hW => ⟨⟨v, u, rfl, hp, by rw [ht]; exact hP, va_K.moved hW.alike hK, hD⟩, hS.F ht⟩) hS.2.2 hdg hlk)
theorem zend {post : Int32 → S → Prop} {v : Int32} (hx : p.tables.exec = Jvm.exec) (hb : c.code = cc) (hr : meth.sig.returnType = some .boolean) (hn : narrow .boolean (.int v) = .int v) (hlk : meth.locks = false) (u : S) (hp : post v u) (hP : va_P D vwCl (w u) H) (hK : va_K D vwCl (tyl ca) s) (hD : va_D A (w u)) (hS : va_S A s.heap H locs) (hc : cells ≤ mc) (hs : slots ≤ ms) (hdg : decode cc pc = .ok (.ireturn, 1)) : W p l e R s m args below meth c H locs cells slots (MQ below (va_Qi post (poW D ca A w) A) args s mc ms A) (F0 m pc ls [.int v]) :=
  W.widen hc hs (W.zret hx hb hr hn (fun t ht hW => ⟨⟨v, u, rfl, hp, by rw [ht]; exact hP, va_K.moved hW.alike hK, hD⟩, hS.F ht⟩) hS.2.2 hdg hlk)
theorem siend {v : Int32} (hx : p.tables.exec = Jvm.exec) (hb : c.code = cc) (hr : meth.sig.returnType = some .int) (hlk : meth.locks = false) (hS : va_S A s.heap H locs) {v0 : Int32} (hv : v = v0) (hdg : decode cc pc = .ok (.ireturn, 1)) : W p l e R s m args below meth c H locs 0 0 (MQ below (va_Qi (fun r (_ : Unit) => r = v0) (fun _ _ => True) A) args s 0 0 A) (F0 m pc ls [.int v]) :=
  W.iret hx hb hr (fun t ht hW => ⟨⟨v, (), rfl, hv, trivial⟩, hS.F ht⟩) hS.2.2 hdg hlk
theorem slend {v : Int64} (hx : p.tables.exec = Jvm.exec) (hb : c.code = cc) (hr : meth.sig.returnType = some .long) (hlk : meth.locks = false) (hS : va_S A s.heap H locs) {v0 : Int64} (hv : v = v0) (hdg : decode cc pc = .ok (.lreturn, 1)) : W p l e R s m args below meth c H locs 0 0 (MQ below (va_Ql (fun r (_ : Unit) => r = v0) (fun _ _ => True) A) args s 0 0 A) (F0 m pc ls [.long v]) :=
  W.lret hx hb hr (fun t ht hW => ⟨⟨v, (), rfl, hv, trivial⟩, hS.F ht⟩) hS.2.2 hdg hlk
end ENDS
section STARTS
variable {l : Launch} {y : MethodName} {cd : ByteArray} {L : Nat} {rm : Room} {D : va_G} {ca : Nat → ClassId} {X : (Nat → Prop) → State → Prop} {av : List Value} {ws : va_W} {S : Type} {w : S → va_W} {mc ms : Nat} {ret : FieldType}
theorem MV.of {post : S → Prop} (hy : plainName y.cls = true) (hL : (lg_sl av).length ≤ L) (body : ∀ (p : Program) (e : Env) (s : State) (m : MethodId) (below : List Frame) (meth : Method) (c : Code) (A : Nat → Prop), p.tables.exec = Jvm.exec → c.code = cd → meth.sig.returnType = none → c.maxLocals = L → meth.locks = false → s.vm.findClass y.cls = some m.cls → (∀ w ∈ lw_all, w.before av.toArray s = true) → meth.name = y.name → (∀ q : Nat, s.heap.size ≤ q → A q) → va_P D vwCl ws s.heap → va_K D vwCl (tyl ca) s → va_D A ws → va_S A s.heap s.heap [] → X A s → ∀ ls : Array Slot, lv_has ls L (lv_args 0 av) → W p l e rm s m av.toArray below meth c s.heap [] 0 0 (MQ below (va_Qv post (poW D ca A w) A) av.toArray s mc ms A) (F0 m 0 ls [])) : MV l y cd L rm D ca X av ws post w mc ms := by
  intro sz
  refine Met.ofW (cc := cd) (maxL := L) (ret := none) hy rfl ?_
  intro p e s m args below meth c s₁ B hml hv
  obtain ⟨rfl, ⟨hsz, hP, hK, hD0⟩, hX⟩ := hv
  have hts := atoms_spec (ws := ws_ y cd L none) B.pre
  have hts : ∀ w ∈ lw_all, w.before av.toArray s = true := fun w h => hts w (List.mem_cons_of_mem _ h)
  subst hsz
  have hl := lv_entry av hL
  rw [lg_entry_eq]
  exact body p e s m below meth c _ B.exec B.bytes B.returns hml B.notSynchronized (findClass_of_methodNamed B.named) hts (name_of_methodNamed B.named B.method).1 (fun q h => Or.inr h) hP hK hD0.self va_S.rf hX _ hl
theorem MI.of {post : Int32 → S → Prop} (hy : plainName y.cls = true) (hL : (lg_sl av).length ≤ L) (body : ∀ (p : Program) (e : Env) (s : State) (m : MethodId) (below : List Frame) (meth : Method) (c : Code) (A : Nat → Prop), p.tables.exec = Jvm.exec → c.code = cd → meth.sig.returnType = some ret → c.maxLocals = L → meth.locks = false → s.vm.findClass y.cls = some m.cls → (∀ w ∈ lw_all, w.before av.toArray s = true) → meth.name = y.name → (∀ q : Nat, s.heap.size ≤ q → A q) → va_P D vwCl ws s.heap → va_K D vwCl (tyl ca) s → va_D A ws → va_S A s.heap s.heap [] → X A s → ∀ ls : Array Slot, lv_has ls L (lv_args 0 av) → W p l e rm s m av.toArray below meth c s.heap [] 0 0 (MQ below (va_Qi post (poW D ca A w) A) av.toArray s mc ms A) (F0 m 0 ls [])) : MI l y cd L ret rm D ca X av ws post w mc ms := by
  intro sz
  refine Met.ofW (cc := cd) (maxL := L) (ret := some ret) hy rfl ?_
  intro p e s m args below meth c s₁ B hml hv
  obtain ⟨rfl, ⟨hsz, hP, hK, hD0⟩, hX⟩ := hv
  have hts := atoms_spec (ws := ws_ y cd L (some ret)) B.pre
  have hts : ∀ w ∈ lw_all, w.before av.toArray s = true := fun w h => hts w (List.mem_cons_of_mem _ h)
  subst hsz
  have hl := lv_entry av hL
  rw [lg_entry_eq]
  exact body p e s m below meth c _ B.exec B.bytes B.returns hml B.notSynchronized (findClass_of_methodNamed B.named) hts (name_of_methodNamed B.named B.method).1 (fun q h => Or.inr h) hP hK hD0.self va_S.rf hX _ hl
theorem SI.of {v : Int32} (hy : plainName y.cls = true) (hL : (lg_sl av).length ≤ L) (body : ∀ (p : Program) (e : Env) (s : State) (m : MethodId) (below : List Frame) (meth : Method) (c : Code) (A : Nat → Prop), p.tables.exec = Jvm.exec → c.code = cd → meth.sig.returnType = some .int → c.maxLocals = L → meth.locks = false → s.vm.findClass y.cls = some m.cls → (∀ w ∈ lw_all, w.before av.toArray s = true) → va_S A s.heap s.heap [] → ∀ ls : Array Slot, lv_has ls L (lv_args 0 av) → W p l e rm s m av.toArray below meth c s.heap [] 0 0 (MQ below (va_Qi (fun r (_ : Unit) => r = v) (fun _ _ => True) A) av.toArray s 0 0 A) (F0 m 0 ls [])) : SI l y cd L rm av v := by
  intro sz
  refine Met.ofW (cc := cd) (maxL := L) (ret := some .int) hy rfl ?_
  intro p e s m args below meth c s₁ B hml hv
  obtain ⟨rfl, hsz⟩ := hv
  have hts := atoms_spec (ws := ws_ y cd L (some .int)) B.pre
  have hts : ∀ w ∈ lw_all, w.before av.toArray s = true := fun w h => hts w (List.mem_cons_of_mem _ h)
  subst hsz
  have hl := lv_entry av hL
  rw [lg_entry_eq]
  exact body p e s m below meth c _ B.exec B.bytes B.returns hml B.notSynchronized (findClass_of_methodNamed B.named) hts va_S.rf _ hl
theorem SL.of {v : Int64} (hy : plainName y.cls = true) (hL : (lg_sl av).length ≤ L) (body : ∀ (p : Program) (e : Env) (s : State) (m : MethodId) (below : List Frame) (meth : Method) (c : Code) (A : Nat → Prop), p.tables.exec = Jvm.exec → c.code = cd → meth.sig.returnType = some .long → c.maxLocals = L → meth.locks = false → s.vm.findClass y.cls = some m.cls → (∀ w ∈ lw_all, w.before av.toArray s = true) → va_S A s.heap s.heap [] → ∀ ls : Array Slot, lv_has ls L (lv_args 0 av) → W p l e rm s m av.toArray below meth c s.heap [] 0 0 (MQ below (va_Ql (fun r (_ : Unit) => r = v) (fun _ _ => True) A) av.toArray s 0 0 A) (F0 m 0 ls [])) : SL l y cd L rm av v := by
  intro sz
  refine Met.ofW (cc := cd) (maxL := L) (ret := some .long) hy rfl ?_
  intro p e s m args below meth c s₁ B hml hv
  obtain ⟨rfl, hsz⟩ := hv
  have hts := atoms_spec (ws := ws_ y cd L (some .long)) B.pre
  have hts : ∀ w ∈ lw_all, w.before av.toArray s = true := fun w h => hts w (List.mem_cons_of_mem _ h)
  subst hsz
  have hl := lv_entry av hL
  rw [lg_entry_eq]
  exact body p e s m below meth c _ B.exec B.bytes B.returns hml B.notSynchronized (findClass_of_methodNamed B.named) hts va_S.rf _ hl
end STARTS
end
section
/-! pure: bits of 32 and of 64 (the Int32 family begins as rows of kit/laws/BITS.to-paste) -/
def bt (x : Int32) (i : Nat) : Bool := x.toBitVec.getLsbD i
theorem b_ext {x y : Int32} (h : ∀ i, i < 32 → bt x i = bt y i) : x = y := Int32.toBitVec_inj.mp (BitVec.eq_of_getLsbD_eq (fun i hi => h i hi))
theorem b_or (x y : Int32) (i : Nat) : bt (x ||| y) i = (bt x i || bt y i) := by unfold bt; rw [Int32.toBitVec_or, BitVec.getLsbD_or]
theorem b_and (x y : Int32) (i : Nat) : bt (x &&& y) i = (bt x i && bt y i) := by unfold bt; rw [Int32.toBitVec_and, BitVec.getLsbD_and]
theorem b_xor (x y : Int32) (i : Nat) : bt (x ^^^ y) i = (bt x i ^^ bt y i) := by unfold bt; rw [Int32.toBitVec_xor, BitVec.getLsbD_xor]
theorem b_big {x : Int32} {i : Nat} (h : 32 ≤ i) : bt x i = false := BitVec.getLsbD_of_ge _ _ h
theorem b_255 (i : Nat) : bt 255 i = decide (i < 8) := by
  rcases Nat.lt_or_ge i 32 with h | h
  · exact (by decide +kernel : ∀ i, i < 32 → bt 255 i = decide (i < 8)) i h
  · rw [b_big h, decide_eq_false (by omega)]
theorem b_15 (i : Nat) : bt 15 i = decide (i < 4) := by
  rcases Nat.lt_or_ge i 32 with h | h
  · exact (by decide +kernel : ∀ i, i < 32 → bt 15 i = decide (i < 4)) i h
  · rw [b_big h, decide_eq_false (by omega)]
theorem b_m1 : ∀ i, i < 32 → bt (-1) i = true := by decide +kernel
theorem b_0 (i : Nat) : bt 0 i = false := BitVec.getLsbD_zero
theorem s_l : ∀ n, n < 32 → ((nI n &&& 31).toBitVec.smod 32).toNat = n := by decide +kernel
theorem s_u : ∀ n, n < 32 → (((nI n).toUInt32 &&& Int32.toUInt32 31).toBitVec % 32).toNat = n := by decide +kernel
theorem s_n : ∀ n, n < 32 → (((-(nI n)).toUInt32 &&& Int32.toUInt32 31).toBitVec % 32).toNat = (32 - n) % 32 := by decide +kernel
theorem b_shl (n : Nat) (hn : n < 32) (x : Int32) {i : Nat} (hi : i < 32) : bt (x <<< (nI n &&& 31)) i = (decide (n ≤ i) && bt x (i - n)) := by
  unfold bt
  rw [Int32.toBitVec_shiftLeft]
  show (x.toBitVec <<< ((nI n &&& 31).toBitVec.smod 32).toNat).getLsbD i = _
  rw [s_l n hn, BitVec.getLsbD_shiftLeft]
  rcases Nat.lt_or_ge i n with h | h
  · simp [h, Nat.not_le.mpr h]
  · simp [hi, h, Nat.not_lt.mpr h]
theorem b_ushr (n : Nat) (hn : n < 32) (x : Int32) (i : Nat) : bt ((x.toUInt32 >>> ((nI n).toUInt32 &&& Int32.toUInt32 31)).toInt32) i = bt x (n + i) := by
  show (x.toUInt32 >>> ((nI n).toUInt32 &&& Int32.toUInt32 31)).toBitVec.getLsbD i = x.toUInt32.toBitVec.getLsbD (n + i)
  rw [UInt32.toBitVec_shiftRight]
  show (x.toUInt32.toBitVec >>> (((nI n).toUInt32 &&& Int32.toUInt32 31).toBitVec % 32).toNat).getLsbD i = _
  rw [s_u n hn, BitVec.getLsbD_ushiftRight]
theorem b_ushrN (n : Nat) (hn : n < 32) (x : Int32) (i : Nat) : bt ((x.toUInt32 >>> ((-(nI n)).toUInt32 &&& Int32.toUInt32 31)).toInt32) i = bt x ((32 - n) % 32 + i) := by
  show (x.toUInt32 >>> ((-(nI n)).toUInt32 &&& Int32.toUInt32 31)).toBitVec.getLsbD i = x.toUInt32.toBitVec.getLsbD ((32 - n) % 32 + i)
  rw [UInt32.toBitVec_shiftRight]
  show (x.toUInt32.toBitVec >>> (((-(nI n)).toUInt32 &&& Int32.toUInt32 31).toBitVec % 32).toNat).getLsbD i = _
  rw [s_n n hn, BitVec.getLsbD_ushiftRight]
theorem b_sshr (n : Nat) (hn : n < 32) (x : Int32) {i : Nat} (hi : i < 32) : bt (x >>> (nI n &&& 31)) i = if n + i < 32 then bt x (n + i) else bt x 31 := by
  unfold bt
  rw [Int32.toBitVec_shiftRight]
  show (x.toBitVec.sshiftRight ((nI n &&& 31).toBitVec.smod 32).toNat).getLsbD i = _
  rw [s_l n hn, BitVec.getLsbD_sshiftRight, BitVec.msb_eq_getLsbD_last]
  simp [hi]
theorem bp_b (x : Int32) : x.toInt8.toInt32 &&& 255 = x &&& 255 := by
  apply b_ext
  intro i hi
  rw [b_and, b_and, b_255]
  by_cases h : i < 8
  · have e : bt x.toInt8.toInt32 i = bt x i := by
      unfold bt
      rw [Int8.toBitVec_toInt32, Int32.toBitVec_toInt8, BitVec.getLsbD_signExtend, if_pos h, BitVec.getLsbD_signExtend, if_pos hi, decide_eq_true hi, decide_eq_true h, Bool.true_and, Bool.true_and]
    rw [e]
  · simp [h]
/-! 64 -/
def bl (x : Int64) (i : Nat) : Bool := x.toBitVec.getLsbD i
theorem bl_ext {x y : Int64} (h : ∀ i, i < 64 → bl x i = bl y i) : x = y := Int64.toBitVec_inj.mp (BitVec.eq_of_getLsbD_eq (fun i hi => h i hi))
theorem bl_or (x y : Int64) (i : Nat) : bl (x ||| y) i = (bl x i || bl y i) := by unfold bl; rw [Int64.toBitVec_or, BitVec.getLsbD_or]
theorem bl_and (x y : Int64) (i : Nat) : bl (x &&& y) i = (bl x i && bl y i) := by unfold bl; rw [Int64.toBitVec_and, BitVec.getLsbD_and]
theorem bl_xor (x y : Int64) (i : Nat) : bl (x ^^^ y) i = (bl x i ^^ bl y i) := by unfold bl; rw [Int64.toBitVec_xor, BitVec.getLsbD_xor]
theorem bl_big {x : Int64} {i : Nat} (h : 64 ≤ i) : bl x i = false := BitVec.getLsbD_of_ge _ _ h
theorem bl_0 (i : Nat) : bl 0 i = false := BitVec.getLsbD_zero
theorem bl_m1 : ∀ i, i < 64 → bl (-1) i = true := by decide +kernel
theorem sl_l : ∀ n, n < 64 → (((nI n).toInt64 &&& 63).toBitVec.smod 64).toNat = n := by decide +kernel
theorem sl_u : ∀ n, n < 64 → (((nI n).toInt64.toUInt64 &&& Int64.toUInt64 63).toBitVec % 64).toNat = n := by decide +kernel
theorem bl_shl (n : Nat) (hn : n < 64) (x : Int64) {i : Nat} (hi : i < 64) : bl (x <<< ((nI n).toInt64 &&& 63)) i = (decide (n ≤ i) && bl x (i - n)) := by
  unfold bl
  rw [Int64.toBitVec_shiftLeft]
  show (x.toBitVec <<< (((nI n).toInt64 &&& 63).toBitVec.smod 64).toNat).getLsbD i = _
  rw [sl_l n hn, BitVec.getLsbD_shiftLeft]
  rcases Nat.lt_or_ge i n with h | h
  · simp [h, Nat.not_le.mpr h]
  · simp [hi, h, Nat.not_lt.mpr h]
theorem bl_ushr (n : Nat) (hn : n < 64) (x : Int64) (i : Nat) : bl ((x.toUInt64 >>> ((nI n).toInt64.toUInt64 &&& Int64.toUInt64 63)).toInt64) i = bl x (n + i) := by
  show (x.toUInt64 >>> ((nI n).toInt64.toUInt64 &&& Int64.toUInt64 63)).toBitVec.getLsbD i = x.toUInt64.toBitVec.getLsbD (n + i)
  rw [UInt64.toBitVec_shiftRight]
  show (x.toUInt64.toBitVec >>> (((nI n).toInt64.toUInt64 &&& Int64.toUInt64 63).toBitVec % 64).toNat).getLsbD i = _
  rw [sl_u n hn, BitVec.getLsbD_ushiftRight]
theorem bl_i2l (x : Int32) (hx : bt x 31 = false) {i : Nat} (hi : i < 64) : bl x.toInt64 i = bt x i := by
  unfold bl bt at *
  rw [Int32.toBitVec_toInt64, BitVec.getLsbD_signExtend, BitVec.msb_eq_getLsbD_last]
  by_cases h : i < 32
  · rw [if_pos h, decide_eq_true hi, Bool.true_and]
  · rw [if_neg h, BitVec.getLsbD_of_ge _ i (by omega), show x.toBitVec.getLsbD (32 - 1) = false from hx, Bool.and_false]
theorem bt_l2i (x : Int64) {i : Nat} (hi : i < 32) : bt x.toInt32 i = bl x i := by
  unfold bl bt
  rw [Int64.toBitVec_toInt32, BitVec.getLsbD_signExtend, if_pos (show i < 64 by omega), decide_eq_true hi, Bool.true_and]
/-! turns -/
def rotI (x n : Int32) : Int32 := (x <<< (n &&& 31)) ||| (x.toUInt32 >>> ((-n).toUInt32 &&& Int32.toUInt32 31)).toInt32
def turnL (v : Int64) (n : Nat) : Int64 := if n = 0 then v else (v <<< ((nI n).toInt64 &&& 63)) ||| (v.toUInt64 >>> ((nI (64 - n)).toInt64.toUInt64 &&& Int64.toUInt64 63)).toInt64
theorem b_rot (n : Nat) (hn : n < 32) (x : Int32) {i : Nat} (hi : i < 32) : bt (rotI x (nI n)) i = bt x ((i + (32 - n)) % 32) := by
  unfold rotI
  rw [b_or, b_shl n hn x hi, b_ushrN n hn]
  by_cases h0 : n = 0
  · subst h0
    have e : (i + (32 - 0)) % 32 = i := by omega
    rw [e]
    simp
  by_cases h : n ≤ i
  · rw [b_big (x := x) (i := (32 - n) % 32 + i) (by omega), show (i + (32 - n)) % 32 = i - n by omega]
    simp [h]
  · rw [show (i + (32 - n)) % 32 = (32 - n) % 32 + i by omega]
    simp [h]
theorem bl_turn (n : Nat) (hn : n < 64) (v : Int64) {i : Nat} (hi : i < 64) : bl (turnL v n) i = bl v ((i + (64 - n)) % 64) := by
  unfold turnL
  by_cases h0 : n = 0
  · rw [if_pos h0]
    subst h0
    rw [show (i + (64 - 0)) % 64 = i by omega]
  · rw [if_neg h0, bl_or, bl_shl n hn v hi, bl_ushr (64 - n) (by omega)]
    by_cases h : n ≤ i
    · rw [bl_big (x := v) (i := 64 - n + i) (by omega), show (i + (64 - n)) % 64 = i - n by omega]
      simp [h]
    · rw [show (i + (64 - n)) % 64 = 64 - n + i by omega]
      simp [h]
/-! the two forms of a state -/
def Rel (w : Nat → Int64) (e o : Nat → Int32) : Prop := ∀ p, p < 25 → ∀ j, j < 32 → bt (e p) j = bl (w p) (2 * j) ∧ bt (o p) j = bl (w p) (2 * j + 1)
/-- one word's two halves -/
def Hal (v : Int64) (x y : Int32) : Prop := ∀ j, j < 32 → bt x j = bl v (2 * j) ∧ bt y j = bl v (2 * j + 1)
theorem Hal.xor {v v' : Int64} {x y x' y' : Int32} (h : Hal v x y) (h' : Hal v' x' y') : Hal (v ^^^ v') (x ^^^ x') (y ^^^ y') := by
  intro j hj
  rw [b_xor, b_xor, bl_xor, bl_xor, (h j hj).1, (h j hj).2, (h' j hj).1, (h' j hj).2]
  exact ⟨rfl, rfl⟩
theorem Hal.and {v v' : Int64} {x y x' y' : Int32} (h : Hal v x y) (h' : Hal v' x' y') : Hal (v &&& v') (x &&& x') (y &&& y') := by
  intro j hj
  rw [b_and, b_and, bl_and, bl_and, (h j hj).1, (h j hj).2, (h' j hj).1, (h' j hj).2]
  exact ⟨rfl, rfl⟩
theorem Hal.zero : Hal 0 0 0 := fun j _ => by rw [b_0, bl_0, bl_0]; exact ⟨rfl, rfl⟩
theorem Hal.m1 : Hal (-1) (-1) (-1) := fun j hj => by rw [b_m1 j hj, bl_m1 _ (by omega), bl_m1 _ (by omega)]; exact ⟨rfl, rfl⟩
theorem Hal.evn {v : Int64} {x y : Int32} (h : Hal v x y) (n : Nat) (hn : n < 64) (h2 : n % 2 = 0) : Hal (turnL v n) (rotI x (nI (n / 2))) (rotI y (nI (n / 2))) := by
  intro j hj
  rw [b_rot (n / 2) (by omega) x hj, b_rot (n / 2) (by omega) y hj, bl_turn n hn v (by omega), bl_turn n hn v (by omega)]
  rw [(h _ (by omega)).1, (h _ (by omega)).2]
  rw [show 2 * ((j + (32 - n / 2)) % 32) = (2 * j + (64 - n)) % 64 by omega, show (2 * j + (64 - n)) % 64 + 1 = (2 * j + 1 + (64 - n)) % 64 by omega]
  exact ⟨rfl, rfl⟩
theorem Hal.odd {v : Int64} {x y : Int32} (h : Hal v x y) (n : Nat) (hn : n < 62) (h2 : n % 2 = 1) : Hal (turnL v n) (rotI y (nI (n / 2 + 1))) (rotI x (nI (n / 2))) := by
  intro j hj
  rw [b_rot (n / 2 + 1) (by omega) y hj, b_rot (n / 2) (by omega) x hj, bl_turn n (by omega) v (by omega), bl_turn n (by omega) v (by omega)]
  rw [(h _ (by omega)).1, (h _ (by omega)).2]
  rw [show 2 * ((j + (32 - (n / 2 + 1))) % 32) + 1 = (2 * j + (64 - n)) % 64 by omega, show 2 * ((j + (32 - n / 2)) % 32) = (2 * j + 1 + (64 - n)) % 64 by omega]
  exact ⟨rfl, rfl⟩
theorem Rel.at {w : Nat → Int64} {e o : Nat → Int32} (h : Rel w e o) (p : Nat) (hp : p < 25) : Hal (w p) (e p) (o p) := fun j hj => h p hp j hj
theorem Rel.of {w : Nat → Int64} {e o : Nat → Int32} (h : ∀ p, p < 25 → Hal (w p) (e p) (o p)) : Rel w e o := fun p hp j hj => h p hp j hj
theorem Rel.zero : Rel (fun _ => 0) (fun _ => 0) (fun _ => 0) := Rel.of (fun _ _ => Hal.zero)
theorem Rel.congr {w w' : Nat → Int64} {e o e' o' : Nat → Int32} (h : Rel w e o) (hw : ∀ p, p < 25 → w' p = w p) (he : ∀ p, p < 25 → e' p = e p) (ho : ∀ p, p < 25 → o' p = o p) : Rel w' e' o' := fun p hp j hj => by
  rw [hw p hp, he p hp, ho p hp]
  exact h p hp j hj
/-! the rounds: the first step, columns -/
def csI (f : Nat → Int32) (x : Nat) : Nat → Int32
  | 0 => 0
  | y + 1 => csI f x y ^^^ f (x + 5 * y)
def csL (f : Nat → Int64) (x : Nat) : Nat → Int64
  | 0 => 0
  | y + 1 => csL f x y ^^^ f (5 * y + x)
def thE (e o : Nat → Int32) (p : Nat) : Int32 := e p ^^^ (csI e ((p % 5 + 4) % 5) 5 ^^^ rotI (csI o ((p % 5 + 1) % 5) 5) (nI 1))
def thO (e o : Nat → Int32) (p : Nat) : Int32 := o p ^^^ (csI o ((p % 5 + 4) % 5) 5 ^^^ csI e ((p % 5 + 1) % 5) 5)
def thL (w : Nat → Int64) (p : Nat) : Int64 := (w p ^^^ csL w ((p % 5 + 4) % 5) 5) ^^^ turnL (csL w ((p % 5 + 1) % 5) 5) 1
theorem cs_hal {w : Nat → Int64} {e o : Nat → Int32} (h : Rel w e o) (x : Nat) (hx : x < 5) : ∀ y, y ≤ 5 → Hal (csL w x y) (csI e x y) (csI o x y) := by
  intro y
  induction y with
  | zero => intro _; exact Hal.zero
  | succ y ih =>
    intro hy
    have h2 := (ih (by omega)).xor (h.at (5 * y + x) (by omega))
    show Hal (csL w x y ^^^ w (5 * y + x)) (csI e x y ^^^ e (x + 5 * y)) (csI o x y ^^^ o (x + 5 * y))
    rw [show x + 5 * y = 5 * y + x by omega]
    exact h2
theorem rot0 (x : Int32) : rotI x (nI 0) = x := b_ext (fun i hi => by rw [b_rot 0 (by omega) x hi, show (i + (32 - 0)) % 32 = i by omega])
theorem xorA (x y z : Int64) : (x ^^^ y) ^^^ z = x ^^^ (y ^^^ z) := bl_ext (fun i _ => by rw [bl_xor, bl_xor, bl_xor, bl_xor, Bool.xor_assoc])
theorem th_rel {w : Nat → Int64} {e o : Nat → Int32} (h : Rel w e o) : Rel (thL w) (thE e o) (thO e o) := by
  refine Rel.of (fun p hp => ?_)
  have h1 := cs_hal h ((p % 5 + 4) % 5) (by omega) 5 (Nat.le_refl 5)
  have h2 := (cs_hal h ((p % 5 + 1) % 5) (by omega) 5 (Nat.le_refl 5)).odd 1 (by omega) rfl
  have h3 := (h.at p hp).xor (h1.xor h2)
  rw [← xorA] at h3
  have e1 : rotI (csI e ((p % 5 + 1) % 5) 5) (nI (1 / 2)) = csI e ((p % 5 + 1) % 5) 5 := rot0 _
  rw [e1] at h3
  exact h3
/-! turns and places -/
def TT (p : Nat) : Nat := [0, 1, 62, 28, 27, 36, 44, 6, 55, 20, 3, 10, 43, 25, 39, 41, 45, 15, 21, 8, 18, 2, 61, 56, 14].getD p 0
def TO (p : Nat) : Nat := p / 5 + 5 * ((2 * (p % 5) + 3 * (p / 5)) % 5)
def FR (q : Nat) : Nat := [0, 6, 12, 18, 24, 3, 9, 10, 16, 22, 1, 7, 13, 19, 20, 4, 5, 11, 17, 23, 2, 8, 14, 15, 21].getD q 0
theorem FR_lt : ∀ q, q < 25 → FR q < 25 := by decide +kernel
theorem FR_TO : ∀ q, q < 25 → ∀ p, p < 25 → (FR q = p ↔ q = TO p) := by decide +kernel
theorem TO_lt : ∀ p, p < 25 → TO p < 25 := by decide +kernel
theorem TT_lt : ∀ p, p < 25 → TT p < 63 ∧ (TT p % 2 = 1 → TT p < 62) := by decide +kernel
def mvE (e o : Nat → Int32) (p : Nat) : Int32 := if TT p % 2 = 1 then rotI (o p) (nI (TT p / 2 + 1)) else rotI (e p) (nI (TT p / 2))
def mvO (e o : Nat → Int32) (p : Nat) : Int32 := if TT p % 2 = 1 then rotI (e p) (nI (TT p / 2)) else rotI (o p) (nI (TT p / 2))
def rhL (w : Nat → Int64) (p : Nat) : Int64 := turnL (w p) (TT p)
def piL (w : Nat → Int64) (q : Nat) : Int64 := w (FR q)
theorem mv_rel {w : Nat → Int64} {e o : Nat → Int32} (h : Rel w e o) : Rel (piL (rhL w)) (fun q => mvE e o (FR q)) (fun q => mvO e o (FR q)) := by
  refine Rel.of (fun q hq => ?_)
  have hp := FR_lt q hq
  have ht := TT_lt _ hp
  show Hal (turnL (w (FR q)) (TT (FR q))) (mvE e o (FR q)) (mvO e o (FR q))
  unfold mvE mvO
  by_cases h2 : TT (FR q) % 2 = 1
  · rw [if_pos h2, if_pos h2]
    exact (h.at _ hp).odd _ (ht.2 h2) h2
  · rw [if_neg h2, if_neg h2]
    exact (h.at _ hp).evn _ (by omega) (by omega)
/-! rows -/
def chI (f : Nat → Int32) (p : Nat) : Int32 := f p ^^^ ((f (5 * (p / 5) + (p % 5 + 1) % 5) ^^^ (-1)) &&& f (5 * (p / 5) + (p % 5 + 2) % 5))
def chL (f : Nat → Int64) (p : Nat) : Int64 := f p ^^^ ((f (5 * (p / 5) + (p % 5 + 1) % 5) ^^^ (-1)) &&& f (5 * (p / 5) + (p % 5 + 2) % 5))
theorem ch_rel {w : Nat → Int64} {e o : Nat → Int32} (h : Rel w e o) : Rel (chL w) (chI e) (chI o) :=
  Rel.of (fun p hp => (h.at p hp).xor (((h.at (5 * (p / 5) + (p % 5 + 1) % 5) (by omega)).xor Hal.m1).and (h.at (5 * (p / 5) + (p % 5 + 2) % 5) (by omega))))
/-! the round's constant -/
def lfs (d : Nat) : Nat := if 255 < d then d ^^^ 369 else d
def lf : Nat → Nat
  | 0 => 1
  | n + 1 => lfs (2 * lf n)
theorem lfs_lt : ∀ d, d < 512 → lfs d < 256 := by decide +kernel
theorem lf_lt : ∀ n, lf n < 256 := by
  intro n
  induction n with
  | zero => decide
  | succ n ih => exact lfs_lt _ (by omega)
def evP (r : Nat) : Nat → Int32
  | 0 => 0
  | k + 1 => if lf (7 * r + k) % 2 = 1 then (if k = 0 then evP r k ||| 1 else evP r k) else evP r k
def odP (r : Nat) : Nat → Int32
  | 0 => 0
  | k + 1 => if lf (7 * r + k) % 2 = 1 then (if k = 0 then odP r k else odP r k ||| (1 <<< (nI (2 ^ (k - 1) - 1) &&& 31))) else odP r k
def ioL (r : Nat) (v : Int64) : Nat → Int64
  | 0 => v
  | k + 1 => if lf (7 * r + k) % 2 = 1 then ioL r v k ^^^ (1 <<< ((nI (2 ^ k - 1)).toInt64 &&& 63)) else ioL r v k
theorem xor0L (v : Int64) : v ^^^ 0 = v := bl_ext (fun i _ => by rw [bl_xor, bl_0, Bool.xor_false])
theorem io_xor (r : Nat) (v : Int64) : ∀ k, ioL r v k = v ^^^ ioL r 0 k := by
  intro k
  induction k with
  | zero => exact (xor0L v).symm
  | succ k ih =>
    show (if lf (7 * r + k) % 2 = 1 then ioL r v k ^^^ (1 <<< ((nI (2 ^ k - 1)).toInt64 &&& 63)) else ioL r v k) = v ^^^ (if lf (7 * r + k) % 2 = 1 then ioL r 0 k ^^^ (1 <<< ((nI (2 ^ k - 1)).toInt64 &&& 63)) else ioL r 0 k)
    by_cases h : lf (7 * r + k) % 2 = 1
    · rw [if_pos h, if_pos h, ih, xorA]
    · rw [if_neg h, if_neg h, ih]
set_option maxRecDepth 100000 in
theorem rc_hal : ∀ r, r < 24 → ∀ j, j < 32 → bt (evP r 7) j = bl (ioL r 0 7) (2 * j) ∧ bt (odP r 7) j = bl (ioL r 0 7) (2 * j + 1) := by decide +kernel
/-! a round, all rounds -/
def rdL (r : Nat) (w : Nat → Int64) (p : Nat) : Int64 := if p = 0 then ioL r (chL (piL (rhL (thL w))) 0) 7 else chL (piL (rhL (thL w))) p
def mxL (w : Nat → Int64) : Nat → Nat → Int64
  | 0 => w
  | r + 1 => rdL r (mxL w r)
def mixL (w : Nat → Int64) : Nat → Int64 := mxL w 24
def rdE (e o : Nat → Int32) (p : Nat) : Int32 := chI (fun q => mvE (thE e o) (thO e o) (FR q)) p
def rdO (e o : Nat → Int32) (p : Nat) : Int32 := chI (fun q => mvO (thE e o) (thO e o) (FR q)) p
theorem rd_rel {w : Nat → Int64} {e o : Nat → Int32} (r : Nat) (hr : r < 24) (h : Rel w e o) : Rel (rdL r w) (fun p => if p = 0 then rdE e o 0 ^^^ evP r 7 else rdE e o p) (fun p => if p = 0 then rdO e o 0 ^^^ odP r 7 else rdO e o p) := by
  have h1 := ch_rel (mv_rel (th_rel h))
  refine Rel.of (fun p hp => ?_)
  unfold rdL
  by_cases h0 : p = 0
  · rw [if_pos h0, if_pos h0, if_pos h0, io_xor]
    exact (h1.at 0 (by omega)).xor (fun j hj => rc_hal r hr j hj)
  · rw [if_neg h0, if_neg h0, if_neg h0]
    exact h1.at p hp
end
section
/-! pure: bytes into a state and out of it; taking in, giving out -/
def xbL (w : Nat → Int64) (i : Nat) (b : Int32) (q : Nat) : Int64 := if q = i / 8 then w q ^^^ (b.toInt64 <<< ((nI (8 * (i % 8))).toInt64 &&& 63)) else w q
def halfI (b : Int32) : Int32 := (((b &&& nI 1) ||| ((b >>> (nI 1 &&& 31)) &&& nI 2)) ||| ((b >>> (nI 2 &&& 31)) &&& nI 4)) ||| ((b >>> (nI 3 &&& 31)) &&& nI 8)
def apartI (h : Int32) : Int32 := (((h &&& nI 1) ||| ((h &&& nI 2) <<< (nI 1 &&& 31))) ||| ((h &&& nI 4) <<< (nI 2 &&& 31))) ||| ((h &&& nI 8) <<< (nI 3 &&& 31))
def jnE (e : Nat → Int32) (i : Nat) (b : Int32) (q : Nat) : Int32 := if q = i / 8 then e q ^^^ (halfI b <<< (nI (4 * (i % 8)) &&& 31)) else e q
def jnO (o : Nat → Int32) (i : Nat) (b : Int32) (q : Nat) : Int32 := if q = i / 8 then o q ^^^ (halfI (b >>> (nI 1 &&& 31)) <<< (nI (4 * (i % 8)) &&& 31)) else o q
theorem bt_byte : ∀ k, k < 256 → ∀ i, i < 32 → 8 ≤ i → bt (nI k) i = false := by decide +kernel
theorem bt_byte' {k i : Nat} (hk : k < 256) (hi : 8 ≤ i) : bt (nI k) i = false := by
  rcases Nat.lt_or_ge i 32 with h | h
  · exact bt_byte k hk i h hi
  · exact b_big h
theorem half_bits : ∀ k, k < 256 → ∀ j, j < 32 → bt (halfI (nI k)) j = (decide (j < 4) && bt (nI k) (2 * j)) ∧ bt (halfI (nI k >>> (nI 1 &&& 31))) j = (decide (j < 4) && bt (nI k) (2 * j + 1)) := by decide +kernel
theorem jn_hal (k : Nat) (hk : k < 256) (m : Nat) (hm : m < 8) : Hal ((nI k).toInt64 <<< ((nI (8 * m)).toInt64 &&& 63)) (halfI (nI k) <<< (nI (4 * m) &&& 31)) (halfI (nI k >>> (nI 1 &&& 31)) <<< (nI (4 * m) &&& 31)) := by
  intro j hj
  rw [b_shl (4 * m) (by omega) _ hj, b_shl (4 * m) (by omega) _ hj, bl_shl (8 * m) (by omega) _ (by omega), bl_shl (8 * m) (by omega) _ (by omega), bl_i2l _ (bt_byte' hk (by omega)) (by omega), bl_i2l _ (bt_byte' hk (by omega)) (by omega)]
  rw [(half_bits k hk (j - 4 * m) (by omega)).1, (half_bits k hk (j - 4 * m) (by omega)).2]
  by_cases h : 4 * m ≤ j
  · rw [show 2 * (j - 4 * m) = 2 * j - 8 * m by omega, show 2 * j - 8 * m + 1 = 2 * j + 1 - 8 * m by omega, decide_eq_true h, decide_eq_true (show 8 * m ≤ 2 * j by omega), decide_eq_true (show 8 * m ≤ 2 * j + 1 by omega)]
    by_cases h4 : j - 4 * m < 4
    · rw [decide_eq_true h4]
      simp
    · rw [decide_eq_false h4, bt_byte' hk (show 8 ≤ 2 * j - 8 * m by omega), bt_byte' hk (show 8 ≤ 2 * j + 1 - 8 * m by omega)]
      simp
  · rw [decide_eq_false h, decide_eq_false (show ¬ 8 * m ≤ 2 * j by omega), decide_eq_false (show ¬ 8 * m ≤ 2 * j + 1 by omega)]
    simp
theorem jn_rel {w : Nat → Int64} {e o : Nat → Int32} (h : Rel w e o) (i : Nat) (k : Nat) (hk : k < 256) : Rel (xbL w i (nI k)) (jnE e i (nI k)) (jnO o i (nI k)) := by
  refine Rel.of (fun p hp => ?_)
  unfold xbL jnE jnO
  by_cases hq : p = i / 8
  · rw [if_pos hq, if_pos hq, if_pos hq]
    exact (h.at p hp).xor (jn_hal k hk (i % 8) (by omega))
  · rw [if_neg hq, if_neg hq, if_neg hq]
    exact h.at p hp
def obL (w : Nat → Int64) (i : Nat) : Int32 := ((w (i / 8)).toUInt64 >>> ((nI (8 * (i % 8))).toInt64.toUInt64 &&& Int64.toUInt64 63)).toInt64.toInt32 &&& nI 255
def nib (x : Int32) (i : Nat) : Int32 := (x.toUInt32 >>> ((nI (4 * (i % 8))).toUInt32 &&& Int32.toUInt32 31)).toInt32 &&& nI 15
def gvI (e o : Nat → Int32) (i : Nat) : Int32 := apartI (nib (e (i / 8)) i) ||| (apartI (nib (o (i / 8)) i) <<< (nI 1 &&& 31))
theorem apart_bits : ∀ h, h < 16 → ∀ j, j < 32 → bt (apartI (nI h)) j = (decide (j % 2 = 0) && bt (nI h) (j / 2)) ∧ bt (apartI (nI h) <<< (nI 1 &&& 31)) j = (decide (j % 2 = 1) && bt (nI h) (j / 2)) := by decide +kernel
theorem apart_b (x : Int32) (j : Nat) (hj : j < 32) : bt (apartI (x &&& nI 15)) j = (decide (j % 2 = 0) && bt (x &&& nI 15) (j / 2)) ∧ bt (apartI (x &&& nI 15) <<< (nI 1 &&& 31)) j = (decide (j % 2 = 1) && bt (x &&& nI 15) (j / 2)) := by
  obtain ⟨h, h16, e⟩ := pk_andE x (m := nI 15) 4 (by decide)
  rw [e]
  exact apart_bits h (by omega) j hj
theorem gv_eq {w : Nat → Int64} {e o : Nat → Int32} (h : Rel w e o) (i : Nat) (hi : i < 200) : gvI e o i = obL w i := by
  apply b_ext
  intro j hj
  have hh := h.at (i / 8) (by omega)
  have f15 : ∀ k, bt (nI 15) k = decide (k < 4) := b_15
  have f255 : ∀ k, bt (nI 255) k = decide (k < 8) := b_255
  unfold gvI obL nib
  rw [b_or, (apart_b _ j hj).1, (apart_b _ j hj).2, b_and, b_and, b_and, f15, f255, b_ushr (4 * (i % 8)) (by omega), b_ushr (4 * (i % 8)) (by omega), bt_l2i _ hj, bl_ushr (8 * (i % 8)) (by omega)]
  by_cases h8 : j < 8
  · rw [(hh (4 * (i % 8) + j / 2) (by omega)).1, (hh (4 * (i % 8) + j / 2) (by omega)).2, decide_eq_true h8, decide_eq_true (show j / 2 < 4 by omega)]
    by_cases h2 : j % 2 = 0
    · rw [show 2 * (4 * (i % 8) + j / 2) = 8 * (i % 8) + j by omega]
      simp [h2]
    · rw [show 2 * (4 * (i % 8) + j / 2) + 1 = 8 * (i % 8) + j by omega]
      have h1 : j % 2 = 1 := by omega
      simp [h1]
  · rw [decide_eq_false h8, decide_eq_false (show ¬ j / 2 < 4 by omega)]
    simp
/-! taking in -/
def stpL (r : Nat) (w : Nat → Int64) (a : Nat) (b : Int32) : Nat → Int64 := if a + 1 = r then mixL (xbL w a b) else xbL w a b
def absL (r : Nat) (t : Nat → Int32) : Nat → Nat → Int64
  | 0 => fun _ => 0
  | n + 1 => stpL r (absL r t n) (n % r) (t n &&& nI 255)
theorem absL_congr {r : Nat} {t t' : Nat → Int32} : ∀ n, (∀ i, i < n → t i &&& nI 255 = t' i &&& nI 255) → absL r t n = absL r t' n := by
  intro n
  induction n with
  | zero => intro _; rfl
  | succ n ih =>
    intro h
    show stpL r (absL r t n) (n % r) (t n &&& nI 255) = stpL r (absL r t' n) (n % r) (t' n &&& nI 255)
    rw [ih (fun i hi => h i (by omega)), h n (by omega)]
/-- within one block -/
def blk (w : Nat → Int64) (t : Nat → Int32) (b : Nat) : Nat → Nat → Int64
  | 0 => w
  | i + 1 => xbL (blk w t b i) i (t (b + i) &&& nI 255)
theorem abs_blk {r : Nat} (t : Nat → Int32) (b : Nat) (hb : b % r = 0) : ∀ i, i < r → absL r t (b + i) = blk (absL r t b) t b i := by
  intro i
  induction i with
  | zero => intro _; rfl
  | succ i ih =>
    intro h
    have h1 : (b + i) % r = i := by rw [Nat.add_mod, hb, Nat.zero_add, Nat.mod_mod, Nat.mod_eq_of_lt (by omega)]
    show stpL r (absL r t (b + i)) ((b + i) % r) (t (b + i) &&& nI 255) = xbL (blk (absL r t b) t b i) i (t (b + i) &&& nI 255)
    rw [h1, ih (by omega)]
    unfold stpL
    rw [if_neg (by omega)]
theorem abs_blk_end {r : Nat} (hr : 0 < r) (t : Nat → Int32) (b : Nat) (hb : b % r = 0) : absL r t (b + r) = mixL (blk (absL r t b) t b r) := by
  obtain ⟨k, rfl⟩ : ∃ k, r = k + 1 := ⟨r - 1, by omega⟩
  have h1 : (b + k) % (k + 1) = k := by rw [Nat.add_mod, hb, Nat.zero_add, Nat.mod_mod, Nat.mod_eq_of_lt (by omega)]
  show stpL (k + 1) (absL (k + 1) t (b + k)) ((b + k) % (k + 1)) (t (b + k) &&& nI 255) = mixL (xbL (blk (absL (k + 1) t b) t b k) k (t (b + k) &&& nI 255))
  rw [h1, abs_blk t b hb k (by omega)]
  unfold stpL
  rw [if_pos rfl]
theorem blk_congr {w : Nat → Int64} {t t' : Nat → Int32} {b : Nat} : ∀ n, (∀ i, i < n → t (b + i) &&& nI 255 = t' (b + i) &&& nI 255) → blk w t b n = blk w t' b n := by
  intro n
  induction n with
  | zero => intro _; rfl
  | succ n ih =>
    intro h
    show xbL (blk w t b n) n (t (b + n) &&& nI 255) = xbL (blk w t' b n) n (t' (b + n) &&& nI 255)
    rw [ih (fun i hi => h i (by omega)), h n (by omega)]
theorem xb_0 (w : Nat → Int64) (i : Nat) : xbL w i 0 = w := by
  funext q
  unfold xbL
  by_cases h : q = i / 8
  · rw [if_pos h]
    apply bl_ext
    intro j hj
    rw [bl_xor, bl_shl (8 * (i % 8)) (by omega) _ hj, bl_i2l _ (b_0 31) (by omega), b_0]
    simp
  · rw [if_neg h]
theorem blk_zero {w : Nat → Int64} {t : Nat → Int32} {b n : Nat} : ∀ k, (∀ i, n ≤ i → i < n + k → t (b + i) &&& nI 255 = 0) → blk w t b (n + k) = blk w t b n := by
  intro k
  induction k with
  | zero => intro _; rfl
  | succ k ih =>
    intro h
    show xbL (blk w t b (n + k)) (n + k) (t (b + (n + k)) &&& nI 255) = blk w t b n
    rw [h (n + k) (by omega) (by omega), xb_0, ih (fun i h1 h2 => h i h1 (by omega))]
theorem xb_xb (w : Nat → Int64) (i k k' : Nat) (hk : k < 256) (hk' : k' < 256) (k2 : Nat) (h2 : k2 < 256) (he : ∀ j, j < 8 → bt (nI k2) j = (bt (nI k) j ^^ bt (nI k') j)) : xbL w i (nI k2) = xbL (xbL w i (nI k)) i (nI k') := by
  funext q
  unfold xbL
  by_cases h : q = i / 8
  · rw [if_pos h, if_pos h, if_pos h]
    apply bl_ext
    intro j hj
    rw [bl_xor, bl_xor, bl_xor, bl_shl (8 * (i % 8)) (by omega) _ hj, bl_shl (8 * (i % 8)) (by omega) _ hj, bl_shl (8 * (i % 8)) (by omega) _ hj, bl_i2l _ (bt_byte' hk (by omega)) (by omega), bl_i2l _ (bt_byte' hk' (by omega)) (by omega), bl_i2l _ (bt_byte' h2 (by omega)) (by omega)]
    have e2 : bt (nI k2) (j - 8 * (i % 8)) = (bt (nI k) (j - 8 * (i % 8)) ^^ bt (nI k') (j - 8 * (i % 8))) := by
      rcases Nat.lt_or_ge (j - 8 * (i % 8)) 8 with h8 | h8
      · exact he _ h8
      · rw [bt_byte' hk h8, bt_byte' hk' h8, bt_byte' h2 h8]; rfl
    rw [e2]
    cases decide (8 * (i % 8) ≤ j) <;> simp [Bool.xor_assoc]
  · rw [if_neg h, if_neg h, if_neg h]
/-- behind the last byte -/
def finL (r : Nat) (w : Nat → Int64) (a : Nat) (mk : Int32) : Nat → Int64 := mixL (xbL (xbL w a mk) (r - 1) (nI 128))
/-- what the reference lays out: the fed bytes, the mark, noughts, the end's bit -/
theorem pad_law {r f mk : Nat} (hr : 0 < r) (hm : mk = 6 ∨ mk = 31) (ft al : Nat → Int32) (h1 : ∀ i, i < f → al i &&& nI 255 = ft i &&& nI 255)
    (h2 : f % r + 1 < r → al f &&& nI 255 = nI mk ∧ (∀ i, f < i → i + 1 < (f / r + 1) * r → al i &&& nI 255 = 0) ∧ al ((f / r + 1) * r - 1) &&& nI 255 = nI 128)
    (h3 : f % r + 1 = r → al f &&& nI 255 = nI (mk + 128)) : absL r al ((f / r + 1) * r) = finL r (absL r ft f) (f % r) (nI mk) := by
  have hlt : f % r < r := Nat.mod_lt _ hr
  have hdm : f / r * r + f % r = f := by rw [Nat.mul_comm]; exact Nat.div_add_mod f r
  generalize hB : f / r * r = B at *
  generalize ha : f % r = a at *
  have hE : (f / r + 1) * r = B + r := by rw [Nat.add_mul, hB, Nat.one_mul]
  have hBm : B % r = 0 := by rw [← hB]; exact Nat.mul_mod_left _ _
  rw [hE] at h2 ⊢
  rw [abs_blk_end hr al B hBm]
  have hf : absL r ft f = blk (absL r ft B) ft B a := by
    have := abs_blk ft B hBm a hlt
    rw [hdm] at this
    exact this
  rw [hf, absL_congr (t := al) (t' := ft) B (fun i hi => h1 i (by omega))]
  unfold finL
  congr 1
  have hba : blk (absL r ft B) al B a = blk (absL r ft B) ft B a := blk_congr a (fun i hi => h1 (B + i) (by omega))
  generalize absL r ft B = w at *
  rcases Nat.lt_or_ge (a + 1) r with h | h
  · obtain ⟨g1, g2, g3⟩ := h2 h
    obtain ⟨k, hk⟩ : ∃ k, r = (a + 1) + k + 1 := ⟨r - (a + 2), by omega⟩
    have e1 : blk w al B (a + 1) = xbL (blk w ft B a) a (nI mk) := by
      show xbL (blk w al B a) a (al (B + a) &&& nI 255) = _
      rw [hba, hdm, g1]
    have e2 : blk w al B ((a + 1) + k) = blk w al B (a + 1) := blk_zero k (fun i q1 q2 => g2 (B + i) (by omega) (by omega))
    have e3 : blk w al B r = xbL (blk w al B ((a + 1) + k)) ((a + 1) + k) (al (B + ((a + 1) + k)) &&& nI 255) := by
      rw [hk]; rfl
    rw [e3, e2, e1, show B + (a + 1 + k) = B + r - 1 by omega, g3, show a + 1 + k = r - 1 by omega]
  · have hra : r = a + 1 := by omega
    have g := h3 (by omega)
    have e3 : blk w al B r = xbL (blk w al B a) a (al (B + a) &&& nI 255) := by rw [hra]; rfl
    rw [e3, hba, hdm, g, show r - 1 = a by omega]
    refine xb_xb _ a mk 128 (by omega) (by decide) (mk + 128) (by omega) ?_
    rcases hm with q | q <;> (subst q; decide +kernel)
/-! giving out -/
def zzL (w : Nat → Int64) : Nat → Nat → Int64
  | 0 => w
  | k + 1 => mixL (zzL w k)
/-- byte g of the endless answer -/
def outB (r : Nat) (z : Nat → Int64) (g : Nat) : Int32 := obL (zzL z (g / r)) (g % r)
theorem outB_at {r : Nat} (z : Nat → Int64) {k a : Nat} (ha : a < r) : outB r z (r * k + a) = obL (zzL z k) a := by
  unfold outB
  rw [Nat.mul_add_div (by omega), Nat.div_eq_of_lt ha, Nat.add_zero, Nat.mul_add_mod, Nat.mod_eq_of_lt ha]
end
section
/-! the worlds: a sponge with its rules, a desk, the reference -/
def rTu (p : Nat) : Int32 := nI (TT p)
def rTo (p : Nat) : Int32 := nI (TO p)
def rEv (r : Nat) : Int32 := evP r 7
def rOd (r : Nat) : Int32 := odP r 7
def wSp (ca : Nat → ClassId) (h : Nat → Nat) (e o me mo se so : Nat → Int32) (rt aa : Int32) : va_W :=
  [(h 0, .inr (1, [.ref (h 7), .ref (h 1), .ref (h 2), .ref (h 3), .ref (h 4), .ref (h 5), .ref (h 6), .int rt, .int aa])),
   (h 1, .inl (ca 0, 25, .inl e)), (h 2, .inl (ca 0, 25, .inl o)), (h 3, .inl (ca 0, 25, .inl me)), (h 4, .inl (ca 0, 25, .inl mo)), (h 5, .inl (ca 0, 5, .inl se)), (h 6, .inl (ca 0, 5, .inl so)),
   (h 7, .inr (2, [.ref (h 8), .ref (h 9), .ref (h 10), .ref (h 11)])), (h 8, .inl (ca 0, 25, .inl rTu)), (h 9, .inl (ca 0, 25, .inl rTo)), (h 10, .inl (ca 0, 24, .inl rEv)), (h 11, .inl (ca 0, 24, .inl rOd))]
def wDk (ca : Nat → ClassId) (h : Nat → Nat) (tx kp : Nat → Int32) (len kd fd gv kl cl : Int32) (e o me mo se so : Nat → Int32) (rt aa : Int32) : va_W :=
  (h 12, .inr (0, [.ref (h 13), .ref (h 14), .ref (h 0), .int len, .int kd, .int fd, .int gv, .int kl, .int cl])) :: (h 13, .inl (ca 1, 4096, .inl tx)) :: (h 14, .inl (ca 1, 255, .inl kp)) :: wSp ca h e o me mo se so rt aa
def wMd (ca : Nat → ClassId) (g : Nat → Nat) (sz fd kd sh op ln : Int32) (tx ft : Nat → Int32) (wd t cc : Nat → Int64) (an al : Nat → Int32) : va_W :=
  [(g 0, .inr (3, [.ref (g 1), .int sz, .ref (g 2), .int fd, .int kd, .int sh, .int op, .ref (g 3), .ref (g 4), .ref (g 5), .ref (g 6), .int ln, .ref (g 7)])),
   (g 1, .inl (ca 1, 4096, .inl tx)), (g 2, .inl (ca 1, 2048, .inl ft)), (g 3, .inl (ca 2, 25, .inr (.inl wd))), (g 4, .inl (ca 2, 25, .inr (.inl t))), (g 5, .inl (ca 2, 5, .inr (.inl cc))), (g 6, .inl (ca 0, 256, .inl an)), (g 7, .inl (ca 1, 2304, .inl al))]
/-- what stays all through a method -/
def Fix (p : Program) (m : MethodId) (c : Code) (cd : ByteArray) (L : Nat) (s : State) (args : Array Value) (own : String) (A : Nat → Prop) (D : va_G) (ca : Nat → ClassId) : Prop :=
  p.tables.exec = Jvm.exec ∧ c.code = cd ∧ c.maxLocals = L ∧ s.vm.findClass own = some m.cls ∧ (∀ w ∈ lw_all, w.before args s = true) ∧ (∀ q : Nat, s.heap.size ≤ q → A q) ∧ va_K D vwCl (tyl ca) s
/-- what a heap holds at a point -/
def Sta (D : va_G) (A : Nat → Prop) (s : State) (ws : va_W) (H : Heap) (locs : List Loc) : Prop := va_P D vwCl ws H ∧ va_D A ws ∧ va_S A s.heap H locs
/-- an array on its way from old to new, place by place in the order ix -/
def mid {α : Type} (ix : Nat → Nat) (i : Nat) (new old : Nat → α) : Nat → α := fun q => if ix q < i then new q else old q
theorem mid_0 {α : Type} {ix : Nat → Nat} {new old : Nat → α} : mid ix 0 new old = old := by
  funext q
  exact if_neg (Nat.not_lt_zero _)
theorem mid_at {α : Type} {ix : Nat → Nat} {i q : Nat} {new old : Nat → α} (h : ix q = i) : mid ix i new old q = old q := if_neg (by omega)
theorem mid_old {α : Type} {ix : Nat → Nat} {i q : Nat} {new old : Nat → α} (h : i ≤ ix q) : mid ix i new old q = old q := if_neg (by omega)
theorem mid_new {α : Type} {ix : Nat → Nat} {i q : Nat} {new old : Nat → α} (h : ix q < i) : mid ix i new old q = new q := if_pos h
theorem mid_up {ix : Nat → Nat} {i k n : Nat} {new old : Nat → Int32} {x : Int32} (hk : ∀ q, q < n → (ix q = i ↔ q = k)) (hx : x = new k) : ∀ q, q < n → upd (mid ix i new old) k x q = mid ix (i + 1) new old q := by
  intro q hq
  show (if q = k then x else if ix q < i then new q else old q) = if ix q < i + 1 then new q else old q
  by_cases h : q = k
  · have h1 := (hk q hq).mpr h
    rw [if_pos h, if_pos (by omega), hx, h]
  · have h1 : ix q ≠ i := fun z => h ((hk q hq).mp z)
    rw [if_neg h]
    by_cases h2 : ix q < i
    · rw [if_pos h2, if_pos (by omega)]
    · rw [if_neg h2, if_neg (by omega)]
theorem mid_upL {ix : Nat → Nat} {i k n : Nat} {new old : Nat → Int64} {x : Int64} (hk : ∀ q, q < n → (ix q = i ↔ q = k)) (hx : x = new k) : ∀ q, q < n → vp_updL (mid ix i new old) k x q = mid ix (i + 1) new old q := by
  intro q hq
  show (if q = k then x else if ix q < i then new q else old q) = if ix q < i + 1 then new q else old q
  by_cases h : q = k
  · have h1 := (hk q hq).mpr h
    rw [if_pos h, if_pos (by omega), hx, h]
  · have h1 : ix q ≠ i := fun z => h ((hk q hq).mp z)
    rw [if_neg h]
    by_cases h2 : ix q < i
    · rw [if_pos h2, if_pos (by omega)]
    · rw [if_neg h2, if_neg (by omega)]
theorem mid_end {α : Type} {ix : Nat → Nat} {i n : Nat} {new old : Nat → α} (h : ∀ q, q < n → ix q < i) : ∀ q, q < n → mid ix i new old q = new q := fun q hq => if_pos (h q hq)
theorem upd_upd (f : Nat → Int32) (k : Nat) (x y : Int32) : ∀ q, upd (upd f k x) k y q = upd f k y q := by
  intro q
  show (if q = k then y else if q = k then x else f q) = if q = k then y else f q
  by_cases h : q = k
  · rw [if_pos h, if_pos h]
  · rw [if_neg h, if_neg h, if_neg h]
theorem updL_updL (f : Nat → Int64) (k : Nat) (x y : Int64) : ∀ q, vp_updL (vp_updL f k x) k y q = vp_updL f k y q := by
  intro q
  show (if q = k then y else if q = k then x else f q) = if q = k then y else f q
  by_cases h : q = k
  · rw [if_pos h, if_pos h]
  · rw [if_neg h, if_neg h, if_neg h]
theorem upd_self (f : Nat → Int32) (k : Nat) (x : Int32) : upd f k x k = x := if_pos rfl
theorem updL_self (f : Nat → Int64) (k : Nat) (x : Int64) : vp_updL f k x k = x := if_pos rfl
/-- room of each method -/
abbrev rmz : Room := { frames := 0, cells := 0, slots := 0, locals := 0 }
end
section
/-! static methods without a world -/
set_option maxHeartbeats 4000000 in
set_option maxRecDepth 100000 in
theorem m_rot (l : Launch) (x y : Int32) : SI l yJ0_rotateLeft cJ0_rotateLeft 2 rmz ([.int x, .int y]) (rotI x y) := by
  refine SI.of (by decide) (Nat.le_of_ble_eq_true rfl) ?_
  intro p e s m below meth c A hx hb hr hml hlk hown hts hS ls hl
  have hown : s.vm.findClass RJ0 = some m.cls := hown
  have hl : lv_has ls 2 [(0, .int x), (1, .int y)] := hl
  refine lv_iload_n hx hb dJ0_rotateLeft_0 rfl (lv_at hl 0 rfl) ?_
  refine lv_iload_n hx hb dJ0_rotateLeft_1 rfl (lv_at hl 1 rfl) ?_
  refine lv_ishl hx hb dJ0_rotateLeft_2 ?_
  refine lv_iload_n hx hb dJ0_rotateLeft_3 rfl (lv_at hl 0 rfl) ?_
  refine lv_iload_n hx hb dJ0_rotateLeft_4 rfl (lv_at hl 1 rfl) ?_
  refine lv_ineg hx hb dJ0_rotateLeft_5 ?_
  refine lv_iushr hx hb dJ0_rotateLeft_6 rfl ?_
  refine lv_ior hx hb dJ0_rotateLeft_7 ?_
  exact siend hx hb hr hlk hS (rfl) dJ0_rotateLeft_8
set_option maxHeartbeats 4000000 in
set_option maxRecDepth 100000 in
theorem m_half (l : Launch) (x : Int32) : SI l yX1_half cX1_half 1 rmz ([.int x]) (halfI x) := by
  refine SI.of (by decide) (Nat.le_of_ble_eq_true rfl) ?_
  intro p e s m below meth c A hx hb hr hml hlk hown hts hS ls hl
  have hown : s.vm.findClass RX1 = some m.cls := hown
  have hl : lv_has ls 1 [(0, .int x)] := hl
  refine lv_iload_n hx hb dX1_half_0 rfl (lv_at hl 0 rfl) ?_
  refine lv_iconst (v := nI 1) hx hb dX1_half_1 (by decide) ?_
  refine lv_iand hx hb dX1_half_2 ?_
  refine lv_iload_n hx hb dX1_half_3 rfl (lv_at hl 0 rfl) ?_
  refine lv_iconst (v := nI 1) hx hb dX1_half_4 (by decide) ?_
  refine lv_ishr hx hb dX1_half_5 ?_
  refine lv_iconst (v := nI 2) hx hb dX1_half_6 (by decide) ?_
  refine lv_iand hx hb dX1_half_7 ?_
  refine lv_ior hx hb dX1_half_8 ?_
  refine lv_iload_n hx hb dX1_half_9 rfl (lv_at hl 0 rfl) ?_
  refine lv_iconst (v := nI 2) hx hb dX1_half_10 (by decide) ?_
  refine lv_ishr hx hb dX1_half_11 ?_
  refine lv_iconst (v := nI 4) hx hb dX1_half_12 (by decide) ?_
  refine lv_iand hx hb dX1_half_13 ?_
  refine lv_ior hx hb dX1_half_14 ?_
  refine lv_iload_n hx hb dX1_half_15 rfl (lv_at hl 0 rfl) ?_
  refine lv_iconst (v := nI 3) hx hb dX1_half_16 (by decide) ?_
  refine lv_ishr hx hb dX1_half_17 ?_
  refine lv_bipush (v := nI 8) hx hb dX1_half_18 (by decide) ?_
  refine lv_iand hx hb dX1_half_20 ?_
  refine lv_ior hx hb dX1_half_21 ?_
  exact siend hx hb hr hlk hS (rfl) dX1_half_22
set_option maxHeartbeats 4000000 in
set_option maxRecDepth 100000 in
theorem m_apart (l : Launch) (x : Int32) : SI l yX1_apart cX1_apart 1 rmz ([.int x]) (apartI x) := by
  refine SI.of (by decide) (Nat.le_of_ble_eq_true rfl) ?_
  intro p e s m below meth c A hx hb hr hml hlk hown hts hS ls hl
  have hown : s.vm.findClass RX1 = some m.cls := hown
  have hl : lv_has ls 1 [(0, .int x)] := hl
  refine lv_iload_n hx hb dX1_apart_0 rfl (lv_at hl 0 rfl) ?_
  refine lv_iconst (v := nI 1) hx hb dX1_apart_1 (by decide) ?_
  refine lv_iand hx hb dX1_apart_2 ?_
  refine lv_iload_n hx hb dX1_apart_3 rfl (lv_at hl 0 rfl) ?_
  refine lv_iconst (v := nI 2) hx hb dX1_apart_4 (by decide) ?_
  refine lv_iand hx hb dX1_apart_5 ?_
  refine lv_iconst (v := nI 1) hx hb dX1_apart_6 (by decide) ?_
  refine lv_ishl hx hb dX1_apart_7 ?_
  refine lv_ior hx hb dX1_apart_8 ?_
  refine lv_iload_n hx hb dX1_apart_9 rfl (lv_at hl 0 rfl) ?_
  refine lv_iconst (v := nI 4) hx hb dX1_apart_10 (by decide) ?_
  refine lv_iand hx hb dX1_apart_11 ?_
  refine lv_iconst (v := nI 2) hx hb dX1_apart_12 (by decide) ?_
  refine lv_ishl hx hb dX1_apart_13 ?_
  refine lv_ior hx hb dX1_apart_14 ?_
  refine lv_iload_n hx hb dX1_apart_15 rfl (lv_at hl 0 rfl) ?_
  refine lv_bipush (v := nI 8) hx hb dX1_apart_16 (by decide) ?_
  refine lv_iand hx hb dX1_apart_18 ?_
  refine lv_iconst (v := nI 3) hx hb dX1_apart_19 (by decide) ?_
  refine lv_ishl hx hb dX1_apart_20 ?_
  refine lv_ior hx hb dX1_apart_21 ?_
  exact siend hx hb hr hlk hS (rfl) dX1_apart_22
def cut (n : Int32) : Nat := (n &&& 2147483647).toBitVec.toNat
theorem cut_eq (n : Int32) : n &&& 2147483647 = nI (cut n) ∧ cut n < 2 ^ 31 := by
  obtain ⟨j, hj, e⟩ := pk_andE n (m := 2147483647) 31 (by decide)
  have h : cut n = j := by
    unfold cut
    rw [e]
    exact pk_tn (by omega)
  exact ⟨by rw [h]; exact e, by omega⟩
set_option maxHeartbeats 4000000 in
set_option maxRecDepth 100000 in
theorem m_below (l : Launch) (x : Int32) (k : Nat) (h0 : 0 < k) (h1 : k < 2 ^ 31) : SI l yX0_below cX0_below 2 rmz ([.int x, .int (nI k)]) (nI (cut x % k)) := by
  refine SI.of (by decide) (Nat.le_of_ble_eq_true rfl) ?_
  intro p e s m below meth c A hx hb hr hml hlk hown hts hS ls hl
  have hown : s.vm.findClass RX0 = some m.cls := hown
  have hl : lv_has ls 2 [(0, .int x), (1, .int (nI k))] := hl
  refine lv_iload_n hx hb dX0_below_0 rfl (lv_at hl 0 rfl) ?_
  refine lv_ldc hx hb hown (hts _ q91) dX0_below_1 ?_
  refine lv_iand hx hb dX0_below_3 ?_
  refine tpi (y := nI (cut x)) ((cut_eq x).1) ?_
  refine lv_iload_n hx hb dX0_below_4 rfl (lv_at hl 1 rfl) ?_
  refine n_rem hx hb ((cut_eq x).2) (h0) (h1) dX0_below_5 ?_
  exact siend hx hb hr hlk hS rfl dX0_below_6
set_option maxHeartbeats 4000000 in
set_option maxRecDepth 100000 in
theorem m_at (l : Launch) (x y : Nat) (h0 : x < 2 ^ 31) (h1 : y < 2 ^ 31) : SI l yX3_at cX3_at 2 rmz ([.int (nI x), .int (nI y)]) (nI (5 * (y % 5) + x % 5)) := by
  refine SI.of (by decide) (Nat.le_of_ble_eq_true rfl) ?_
  intro p e s m below meth c A hx hb hr hml hlk hown hts hS ls hl
  have hown : s.vm.findClass RX3 = some m.cls := hown
  have hl : lv_has ls 2 [(0, .int (nI x)), (1, .int (nI y))] := hl
  refine lv_iconst (v := nI 5) hx hb dX3_at_0 (by decide) ?_
  refine lv_iload_n hx hb dX3_at_1 rfl (lv_at hl 1 rfl) ?_
  refine lv_iconst (v := nI 5) hx hb dX3_at_2 (by decide) ?_
  refine n_rem hx hb (by omega) (by omega) (by omega) dX3_at_3 ?_
  refine n_mul hx hb dX3_at_4 ?_
  refine lv_iload_n hx hb dX3_at_5 rfl (lv_at hl 0 rfl) ?_
  refine lv_iconst (v := nI 5) hx hb dX3_at_6 (by decide) ?_
  refine n_rem hx hb (by omega) (by omega) (by omega) dX3_at_7 ?_
  refine n_add hx hb dX3_at_8 ?_
  exact siend hx hb hr hlk hS (rfl) dX3_at_9
set_option maxHeartbeats 4000000 in
set_option maxRecDepth 100000 in
theorem m_turn (l : Launch) (v : Int64) (k : Nat) (h0 : k < 64) : SL l yX3_turn cX3_turn 3 rmz ([.long v, .int (nI k)]) (turnL v k) := by
  refine SL.of (by decide) (Nat.le_of_ble_eq_true rfl) ?_
  intro p e s m below meth c A hx hb hr hml hlk hown hts hS ls hl
  have hown : s.vm.findClass RX3 = some m.cls := hown
  have hl : lv_has ls 3 [(0, .long v), (2, .int (nI k))] := hl
  refine lv_iload_n hx hb dX3_turn_0 rfl (lv_at hl 1 rfl) ?_
  refine n_ifne (tgt := 8) hx hb (by omega) dX3_turn_1 (by decide) (fun hc => ?_) (fun hc => ?_)
  ·
    refine lv_lload_n hx hb dX3_turn_8 rfl (lv_at hl 0 rfl) ?_
    refine lv_iload_n hx hb dX3_turn_9 rfl (lv_at hl 1 rfl) ?_
    refine lv_lshl hx hb dX3_turn_10 rfl ?_
    refine lv_lload_n hx hb dX3_turn_11 rfl (lv_at hl 0 rfl) ?_
    refine lv_bipush (v := nI 64) hx hb dX3_turn_12 (by decide) ?_
    refine lv_iload_n hx hb dX3_turn_14 rfl (lv_at hl 1 rfl) ?_
    refine n_sub hx hb (by omega) dX3_turn_15 ?_
    refine lv_lushr hx hb dX3_turn_16 rfl ?_
    refine lv_lor hx hb dX3_turn_17 ?_
    exact slend hx hb hr hlk hS (by unfold turnL; rw [if_neg hc]) dX3_turn_18
  ·
    refine lv_lload_n hx hb dX3_turn_4 rfl (lv_at hl 0 rfl) ?_
    refine lv_goto (tgt := 18) hx hb dX3_turn_5 (by decide) ?_
    exact slend hx hb hr hlk hS (by unfold turnL; rw [if_pos hc]) dX3_turn_18
end
section
/-! Sponge: columns, move, rows -/
abbrev rmCol : Room := { frames := 1, cells := 0, slots := 0, locals := 21 }
section SPW
variable {p : Program} {l : Launch} {en : Env} {s : State} {m : MethodId} {args : Array Value} {below : List Frame} {meth : Method} {c : Code} {Q : State → Prop} {D : va_G} {ca : Nat → ClassId} {A : Nat → Prop} {h : Nat → Nat}
set_option maxHeartbeats 1000000 in
set_option maxRecDepth 100000 in
theorem col_in (e o me mo se so : Nat → Int32) (rt aa : Int32) (x : Nat) (hx5 : x < 5) (F : Fix p m c cX1_columns 3 s args RX1 A D ca)
    (K : ∀ (H : Heap) (locs : List Loc) (ls : Array Slot), Sta D A s (wSp ca h e o me mo (upd (mid id x (fun x => csI e x 5) se) x (csI e x 5)) (upd (mid id x (fun x => csI o x 5) so) x (csI o x 5)) rt aa) H locs → lv_has ls 3 [(2, .int (nI (x + 5 * 5))), (1, .int (nI x)), (0, .ref (h 0))] → W p l en rmCol s m args below meth c H locs 0 0 Q (F0 m 65 ls [])) :
    ∀ (n y : Nat), y ≤ 5 → 5 + 1 ≤ y + n → ∀ (H : Heap) (locs : List Loc) (ls : Array Slot), Sta D A s (wSp ca h e o me mo (upd (mid id x (fun x => csI e x 5) se) x (csI e x y)) (upd (mid id x (fun x => csI o x 5) so) x (csI o x y)) rt aa) H locs → lv_has ls 3 [(2, .int (nI (x + 5 * y))), (1, .int (nI x)), (0, .ref (h 0))] → W p l en rmCol s m args below meth c H locs 0 0 Q (F0 m 23 ls []) := by
  obtain ⟨hx, hb, hml, hown, hts, hA, hK⟩ := F
  intro n
  induction n with
  | zero => intro y h1 h2; omega
  | succ n ih =>
    intro y hi hn H locs ls hst hl
    obtain ⟨hP, hD, hS⟩ := hst
    refine lv_iload_n hx hb dX1_columns_23 rfl (lv_at hl 0 rfl) ?_
    refine lv_bipush (v := nI 25) hx hb dX1_columns_24 (by decide) ?_
    refine n_ge (tgt := 65) hx hb (by omega) (by omega) dX1_columns_26 (by decide) (fun hc => ?_) (fun hc => ?_)
    ·
      have e5 : y = 5 := by omega
      subst e5
      exact K H locs ls ⟨hP, hD, hS⟩ hl
    ·
      refine lv_aload_n hx hb dX1_columns_29 rfl (lv_at hl 2 rfl) ?_
      refine va_get (D := D) (ci := 1) (v := .ref (h 5)) (C := RX1) (T := TX1) (N := 9) hx hb hts in_X1 hown hK hP 0 rfl rfl 5 (by decide) (hts _ q61) (fun _ h9 => h9) rfl dX1_columns_30 ?_
      refine lv_iload_n hx hb dX1_columns_33 rfl (lv_at hl 1 rfl) ?_
      refine lv_dup2_11 hx hb dX1_columns_34 rfl rfl ?_
      refine n_iald (v := csI e x y) hx hb hK hP 5 0 rfl rfl (by omega) (by decide) (upd_self _ _ _) dX1_columns_35 ?_
      refine lv_aload_n hx hb dX1_columns_36 rfl (lv_at hl 2 rfl) ?_
      refine va_get (D := D) (ci := 1) (v := .ref (h 1)) (C := RX1) (T := TX1) (N := 9) hx hb hts in_X1 hown hK hP 0 rfl rfl 1 (by decide) (hts _ q57) (fun _ h9 => h9) rfl dX1_columns_37 ?_
      refine lv_iload_n hx hb dX1_columns_40 rfl (lv_at hl 0 rfl) ?_
      refine n_iald (v := e (x + 5 * y)) hx hb hK hP 1 0 rfl rfl (by omega) (by decide) (rfl) dX1_columns_41 ?_
      refine lv_ixor hx hb dX1_columns_42 ?_
      refine n_iast (ws' := wSp ca h e o me mo (upd (mid id x (fun x => csI e x 5) se) x (csI e x (y + 1))) (upd (mid id x (fun x => csI o x 5) so) x (csI o x y)) rt aa) hx hb hK hP hD hS 5 0 (upd (mid id x (fun x => csI e x 5) se) x (csI e x (y + 1))) rfl rfl (by omega) (by decide) (fun q _ => upd_upd _ _ _ _ q) rfl dX1_columns_43 (fun H locs hP hD hS => ?_)
      refine lv_aload_n hx hb dX1_columns_44 rfl (lv_at hl 2 rfl) ?_
      refine va_get (D := D) (ci := 1) (v := .ref (h 6)) (C := RX1) (T := TX1) (N := 9) hx hb hts in_X1 hown hK hP 0 rfl rfl 6 (by decide) (hts _ q62) (fun _ h9 => h9) rfl dX1_columns_45 ?_
      refine lv_iload_n hx hb dX1_columns_48 rfl (lv_at hl 1 rfl) ?_
      refine lv_dup2_11 hx hb dX1_columns_49 rfl rfl ?_
      refine n_iald (v := csI o x y) hx hb hK hP 6 0 rfl rfl (by omega) (by decide) (upd_self _ _ _) dX1_columns_50 ?_
      refine lv_aload_n hx hb dX1_columns_51 rfl (lv_at hl 2 rfl) ?_
      refine va_get (D := D) (ci := 1) (v := .ref (h 2)) (C := RX1) (T := TX1) (N := 9) hx hb hts in_X1 hown hK hP 0 rfl rfl 2 (by decide) (hts _ q58) (fun _ h9 => h9) rfl dX1_columns_52 ?_
      refine lv_iload_n hx hb dX1_columns_55 rfl (lv_at hl 0 rfl) ?_
      refine n_iald (v := o (x + 5 * y)) hx hb hK hP 2 0 rfl rfl (by omega) (by decide) (rfl) dX1_columns_56 ?_
      refine lv_ixor hx hb dX1_columns_57 ?_
      refine n_iast (ws' := wSp ca h e o me mo (upd (mid id x (fun x => csI e x 5) se) x (csI e x (y + 1))) (upd (mid id x (fun x => csI o x 5) so) x (csI o x (y + 1))) rt aa) hx hb hK hP hD hS 6 0 (upd (mid id x (fun x => csI o x 5) so) x (csI o x (y + 1))) rfl rfl (by omega) (by decide) (fun q _ => upd_upd _ _ _ _ q) rfl dX1_columns_58 (fun H locs hP hD hS => ?_)
      refine lv_iinc (v := nI (x + 5 * (y + 1))) (lv' := [(2, .int (nI (x + 5 * (y + 1)))), (1, .int (nI x)), (0, .ref (h 0))]) hx hb dX1_columns_59 hl (k := 0) rfl ((nI_add _ 5).trans (congrArg nI (by omega))) (by decide) rfl (fun ls hl => ?_)
      refine lv_goto (tgt := 23) hx hb dX1_columns_62 (by decide) ?_
      exact ih (y + 1) (by omega) (by omega) H locs ls ⟨hP, hD, hS⟩ hl
set_option maxHeartbeats 1000000 in
set_option maxRecDepth 100000 in
theorem col_out (e o me mo se so : Nat → Int32) (rt aa : Int32) (F : Fix p m c cX1_columns 3 s args RX1 A D ca)
    (K : ∀ (H : Heap) (locs : List Loc) (ls : Array Slot), Sta D A s (wSp ca h e o me mo (mid id 5 (fun x => csI e x 5) se) (mid id 5 (fun x => csI o x 5) so) rt aa) H locs → lv_has ls 3 [(1, .int (nI 5)), (0, .ref (h 0))] → W p l en rmCol s m args below meth c H locs 0 0 Q (F0 m 71 ls [])) :
    ∀ (n x : Nat), x ≤ 5 → 5 + 1 ≤ x + n → ∀ (H : Heap) (locs : List Loc) (ls : Array Slot), Sta D A s (wSp ca h e o me mo (mid id x (fun x => csI e x 5) se) (mid id x (fun x => csI o x 5) so) rt aa) H locs → lv_has ls 3 [(1, .int (nI x)), (0, .ref (h 0))] → W p l en rmCol s m args below meth c H locs 0 0 Q (F0 m 2 ls []) := by
  have F1 := F
  obtain ⟨hx, hb, hml, hown, hts, hA, hK⟩ := F
  intro n
  induction n with
  | zero => intro x h1 h2; omega
  | succ n ih =>
    intro x hi hn H locs ls hst hl
    obtain ⟨hP, hD, hS⟩ := hst
    refine lv_iload_n hx hb dX1_columns_2 rfl (lv_at hl 0 rfl) ?_
    refine lv_iconst (v := nI 5) hx hb dX1_columns_3 (by decide) ?_
    refine n_ge (tgt := 71) hx hb (by omega) (by omega) dX1_columns_4 (by decide) (fun hc => ?_) (fun hc => ?_)
    ·
      have e5 : x = 5 := by omega
      subst e5
      exact K H locs ls ⟨hP, hD, hS⟩ hl
    ·
      refine lv_aload_n hx hb dX1_columns_7 rfl (lv_at hl 1 rfl) ?_
      refine va_get (D := D) (ci := 1) (v := .ref (h 5)) (C := RX1) (T := TX1) (N := 9) hx hb hts in_X1 hown hK hP 0 rfl rfl 5 (by decide) (hts _ q61) (fun _ h9 => h9) rfl dX1_columns_8 ?_
      refine lv_iload_n hx hb dX1_columns_11 rfl (lv_at hl 0 rfl) ?_
      refine lv_iconst (v := nI 0) hx hb dX1_columns_12 (by decide) ?_
      refine n_iast (ws' := wSp ca h e o me mo (upd (mid id x (fun x => csI e x 5) se) x (csI e x 0)) (mid id x (fun x => csI o x 5) so) rt aa) hx hb hK hP hD hS 5 0 (upd (mid id x (fun x => csI e x 5) se) x (csI e x 0)) rfl rfl (by omega) (by decide) (fun _ _ => rfl) rfl dX1_columns_13 (fun H locs hP hD hS => ?_)
      refine lv_aload_n hx hb dX1_columns_14 rfl (lv_at hl 1 rfl) ?_
      refine va_get (D := D) (ci := 1) (v := .ref (h 6)) (C := RX1) (T := TX1) (N := 9) hx hb hts in_X1 hown hK hP 0 rfl rfl 6 (by decide) (hts _ q62) (fun _ h9 => h9) rfl dX1_columns_15 ?_
      refine lv_iload_n hx hb dX1_columns_18 rfl (lv_at hl 0 rfl) ?_
      refine lv_iconst (v := nI 0) hx hb dX1_columns_19 (by decide) ?_
      refine n_iast (ws' := wSp ca h e o me mo (upd (mid id x (fun x => csI e x 5) se) x (csI e x 0)) (upd (mid id x (fun x => csI o x 5) so) x (csI o x 0)) rt aa) hx hb hK hP hD hS 6 0 (upd (mid id x (fun x => csI o x 5) so) x (csI o x 0)) rfl rfl (by omega) (by decide) (fun _ _ => rfl) rfl dX1_columns_20 (fun H locs hP hD hS => ?_)
      refine lv_iload_n hx hb dX1_columns_21 rfl (lv_at hl 0 rfl) ?_
      refine tpi (y := nI (x + 5 * 0)) (rfl) ?_
      refine lv_istore_n (lv' := [(2, .int (nI (x + 5 * 0))), (1, .int (nI x)), (0, .ref (h 0))]) hx hb dX1_columns_22 rfl hl (by decide) rfl (fun ls hl => ?_)
      refine col_in e o me mo se so rt aa x (by omega) F1 (fun H locs ls hst hl => ?_) 6 0 (by omega) (by omega) H locs ls ⟨hP, hD, hS⟩ hl
      obtain ⟨hP, hD, hS⟩ := hst
      refine lv_iinc (v := nI (x + 1)) (lv' := [(1, .int (nI (x + 1))), (2, .int (nI (x + 5 * 5))), (0, .ref (h 0))]) hx hb dX1_columns_65 hl (k := 1) rfl (nI_add _ 1) (by decide) rfl (fun ls hl => ?_)
      refine lv_goto (tgt := 2) hx hb dX1_columns_68 (by decide) ?_
      obtain ⟨hP, hD⟩ := P_fn (ws' := wSp ca h e o me mo (mid id (x + 1) (fun x => csI e x 5) se) (upd (mid id x (fun x => csI o x 5) so) x (csI o x 5)) rt aa) hP hD 5 (mid id (x + 1) (fun x => csI e x 5) se) rfl (mid_up (fun _ _ => Iff.rfl) rfl) rfl
      obtain ⟨hP, hD⟩ := P_fn (ws' := wSp ca h e o me mo (mid id (x + 1) (fun x => csI e x 5) se) (mid id (x + 1) (fun x => csI o x 5) so) rt aa) hP hD 6 (mid id (x + 1) (fun x => csI o x 5) so) rfl (mid_up (fun _ _ => Iff.rfl) rfl) rfl
      exact ih (x + 1) (by omega) (by omega) H locs ls ⟨hP, hD, hS⟩ (lv_sub hl [0, 2] rfl)
set_option maxHeartbeats 1000000 in
set_option maxRecDepth 100000 in
theorem col_2 (e o me mo : Nat → Int32) (rt aa : Int32) (F : Fix p m c cX1_columns 3 s args RX1 A D ca)
    (K : ∀ (H : Heap) (locs : List Loc) (ls : Array Slot), Sta D A s (wSp ca h (mid id 25 (thE e o) e) (mid id 25 (thO e o) o) me mo (fun x => csI e x 5) (fun x => csI o x 5) rt aa) H locs → lv_has ls 3 [(1, .int (nI 25)), (0, .ref (h 0))] → W p l en rmCol s m args below meth c H locs 0 0 Q (F0 m 157 ls [])) :
    ∀ (n k : Nat), k ≤ 25 → 25 + 1 ≤ k + n → ∀ (H : Heap) (locs : List Loc) (ls : Array Slot), Sta D A s (wSp ca h (mid id k (thE e o) e) (mid id k (thO e o) o) me mo (fun x => csI e x 5) (fun x => csI o x 5) rt aa) H locs → lv_has ls 3 [(1, .int (nI k)), (0, .ref (h 0))] → W p l en rmCol s m args below meth c H locs 0 0 Q (F0 m 73 ls []) := by
  obtain ⟨hx, hb, hml, hown, hts, hA, hK⟩ := F
  intro n
  induction n with
  | zero => intro k h1 h2; omega
  | succ n ih =>
    intro k hi hn H locs ls hst hl
    obtain ⟨hP, hD, hS⟩ := hst
    refine lv_iload_n hx hb dX1_columns_73 rfl (lv_at hl 0 rfl) ?_
    refine lv_bipush (v := nI 25) hx hb dX1_columns_74 (by decide) ?_
    refine n_ge (tgt := 157) hx hb (by omega) (by omega) dX1_columns_76 (by decide) (fun hc => ?_) (fun hc => ?_)
    ·
      have e5 : k = 25 := by omega
      subst e5
      exact K H locs ls ⟨hP, hD, hS⟩ hl
    ·
      refine lv_aload_n hx hb dX1_columns_79 rfl (lv_at hl 1 rfl) ?_
      refine va_get (D := D) (ci := 1) (v := .ref (h 1)) (C := RX1) (T := TX1) (N := 9) hx hb hts in_X1 hown hK hP 0 rfl rfl 1 (by decide) (hts _ q57) (fun _ h9 => h9) rfl dX1_columns_80 ?_
      refine lv_iload_n hx hb dX1_columns_83 rfl (lv_at hl 0 rfl) ?_
      refine lv_dup2_11 hx hb dX1_columns_84 rfl rfl ?_
      refine n_iald (v := e k) hx hb hK hP 1 0 rfl rfl (by omega) (by decide) (mid_at rfl) dX1_columns_85 ?_
      refine lv_aload_n hx hb dX1_columns_86 rfl (lv_at hl 1 rfl) ?_
      refine va_get (D := D) (ci := 1) (v := .ref (h 5)) (C := RX1) (T := TX1) (N := 9) hx hb hts in_X1 hown hK hP 0 rfl rfl 5 (by decide) (hts _ q61) (fun _ h9 => h9) rfl dX1_columns_87 ?_
      refine lv_iload_n hx hb dX1_columns_90 rfl (lv_at hl 0 rfl) ?_
      refine lv_iconst (v := nI 5) hx hb dX1_columns_91 (by decide) ?_
      refine n_rem hx hb (by omega) (by omega) (by omega) dX1_columns_92 ?_
      refine lv_iconst (v := nI 4) hx hb dX1_columns_93 (by decide) ?_
      refine n_add hx hb dX1_columns_94 ?_
      refine lv_iconst (v := nI 5) hx hb dX1_columns_95 (by decide) ?_
      refine n_rem hx hb (by omega) (by omega) (by omega) dX1_columns_96 ?_
      refine n_iald (v := csI e ((k % 5 + 4) % 5) 5) hx hb hK hP 5 0 rfl rfl (by omega) (by decide) (rfl) dX1_columns_97 ?_
      refine lv_aload_n hx hb dX1_columns_98 rfl (lv_at hl 1 rfl) ?_
      refine va_get (D := D) (ci := 1) (v := .ref (h 6)) (C := RX1) (T := TX1) (N := 9) hx hb hts in_X1 hown hK hP 0 rfl rfl 6 (by decide) (hts _ q62) (fun _ h9 => h9) rfl dX1_columns_99 ?_
      refine lv_iload_n hx hb dX1_columns_102 rfl (lv_at hl 0 rfl) ?_
      refine lv_iconst (v := nI 5) hx hb dX1_columns_103 (by decide) ?_
      refine n_rem hx hb (by omega) (by omega) (by omega) dX1_columns_104 ?_
      refine lv_iconst (v := nI 1) hx hb dX1_columns_105 (by decide) ?_
      refine n_add hx hb dX1_columns_106 ?_
      refine lv_iconst (v := nI 5) hx hb dX1_columns_107 (by decide) ?_
      refine n_rem hx hb (by omega) (by omega) (by omega) dX1_columns_108 ?_
      refine n_iald (v := csI o ((k % 5 + 1) % 5) 5) hx hb hK hP 6 0 rfl rfl (by omega) (by decide) (rfl) dX1_columns_109 ?_
      refine lv_iconst (v := nI 1) hx hb dX1_columns_110 (by decide) ?_
      refine cSi (As := [.int (csI o ((k % 5 + 1) % 5) 5), .int (nI 1)]) (rest := [.int (csI e ((k % 5 + 4) % 5) 5), .int (e k), .int (nI k), .ref (h 1)]) ⟨hx, hb, hml, hown, hts⟩ (m_rot l _ _) (va_cwS 2 hts (lw_S q166 q167 q16 q168) rfl rfl rfl (by decide +kernel) ⟨Nat.le_of_ble_eq_true rfl, Nat.le_of_ble_eq_true rfl⟩) hP hS hA rfl hl.1 rfl (Nat.le_of_ble_eq_true rfl) dX1_columns_111 ⟨Nat.le_of_ble_eq_true rfl, Nat.le_of_ble_eq_true rfl⟩ (fun H locs hP hS => ?_)
      refine lv_ixor hx hb dX1_columns_114 ?_
      refine lv_ixor hx hb dX1_columns_115 ?_
      refine n_iast (ws' := wSp ca h (mid id (k + 1) (thE e o) e) (mid id k (thO e o) o) me mo (fun x => csI e x 5) (fun x => csI o x 5) rt aa) hx hb hK hP hD hS 1 0 (mid id (k + 1) (thE e o) e) rfl rfl (by omega) (by decide) (mid_up (fun _ _ => Iff.rfl) rfl) rfl dX1_columns_116 (fun H locs hP hD hS => ?_)
      refine lv_aload_n hx hb dX1_columns_117 rfl (lv_at hl 1 rfl) ?_
      refine va_get (D := D) (ci := 1) (v := .ref (h 2)) (C := RX1) (T := TX1) (N := 9) hx hb hts in_X1 hown hK hP 0 rfl rfl 2 (by decide) (hts _ q58) (fun _ h9 => h9) rfl dX1_columns_118 ?_
      refine lv_iload_n hx hb dX1_columns_121 rfl (lv_at hl 0 rfl) ?_
      refine lv_dup2_11 hx hb dX1_columns_122 rfl rfl ?_
      refine n_iald (v := o k) hx hb hK hP 2 0 rfl rfl (by omega) (by decide) (mid_at rfl) dX1_columns_123 ?_
      refine lv_aload_n hx hb dX1_columns_124 rfl (lv_at hl 1 rfl) ?_
      refine va_get (D := D) (ci := 1) (v := .ref (h 6)) (C := RX1) (T := TX1) (N := 9) hx hb hts in_X1 hown hK hP 0 rfl rfl 6 (by decide) (hts _ q62) (fun _ h9 => h9) rfl dX1_columns_125 ?_
      refine lv_iload_n hx hb dX1_columns_128 rfl (lv_at hl 0 rfl) ?_
      refine lv_iconst (v := nI 5) hx hb dX1_columns_129 (by decide) ?_
      refine n_rem hx hb (by omega) (by omega) (by omega) dX1_columns_130 ?_
      refine lv_iconst (v := nI 4) hx hb dX1_columns_131 (by decide) ?_
      refine n_add hx hb dX1_columns_132 ?_
      refine lv_iconst (v := nI 5) hx hb dX1_columns_133 (by decide) ?_
      refine n_rem hx hb (by omega) (by omega) (by omega) dX1_columns_134 ?_
      refine n_iald (v := csI o ((k % 5 + 4) % 5) 5) hx hb hK hP 6 0 rfl rfl (by omega) (by decide) (rfl) dX1_columns_135 ?_
      refine lv_aload_n hx hb dX1_columns_136 rfl (lv_at hl 1 rfl) ?_
      refine va_get (D := D) (ci := 1) (v := .ref (h 5)) (C := RX1) (T := TX1) (N := 9) hx hb hts in_X1 hown hK hP 0 rfl rfl 5 (by decide) (hts _ q61) (fun _ h9 => h9) rfl dX1_columns_137 ?_
      refine lv_iload_n hx hb dX1_columns_140 rfl (lv_at hl 0 rfl) ?_
      refine lv_iconst (v := nI 5) hx hb dX1_columns_141 (by decide) ?_
      refine n_rem hx hb (by omega) (by omega) (by omega) dX1_columns_142 ?_
      refine lv_iconst (v := nI 1) hx hb dX1_columns_143 (by decide) ?_
      refine n_add hx hb dX1_columns_144 ?_
      refine lv_iconst (v := nI 5) hx hb dX1_columns_145 (by decide) ?_
      refine n_rem hx hb (by omega) (by omega) (by omega) dX1_columns_146 ?_
      refine n_iald (v := csI e ((k % 5 + 1) % 5) 5) hx hb hK hP 5 0 rfl rfl (by omega) (by decide) (rfl) dX1_columns_147 ?_
      refine lv_ixor hx hb dX1_columns_148 ?_
      refine lv_ixor hx hb dX1_columns_149 ?_
      refine n_iast (ws' := wSp ca h (mid id (k + 1) (thE e o) e) (mid id (k + 1) (thO e o) o) me mo (fun x => csI e x 5) (fun x => csI o x 5) rt aa) hx hb hK hP hD hS 2 0 (mid id (k + 1) (thO e o) o) rfl rfl (by omega) (by decide) (mid_up (fun _ _ => Iff.rfl) rfl) rfl dX1_columns_150 (fun H locs hP hD hS => ?_)
      refine lv_iinc (v := nI (k + 1)) (lv' := [(1, .int (nI (k + 1))), (0, .ref (h 0))]) hx hb dX1_columns_151 hl (k := 0) rfl (nI_add _ 1) (by decide) rfl (fun ls hl => ?_)
      refine lv_goto (tgt := 73) hx hb dX1_columns_154 (by decide) ?_
      exact ih (k + 1) (by omega) (by omega) H locs ls ⟨hP, hD, hS⟩ hl
end SPW
set_option maxHeartbeats 1000000 in
set_option maxRecDepth 100000 in
theorem m_columns (l : Launch) (D : va_G) (ca : Nat → ClassId) (h : Nat → Nat) (e o me mo se so : Nat → Int32) (rt aa : Int32) : MV l yX1_columns cX1_columns 3 rmCol D ca noX [.ref (h 0)] (wSp ca h e o me mo se so rt aa) (S := Unit) (fun _ => True) (fun _ => wSp ca h ((thE e o)) ((thO e o)) me mo ((fun x => csI e x 5)) ((fun x => csI o x 5)) rt aa) 0 0 := by
  refine MV.of (by decide) (Nat.le_of_ble_eq_true rfl) ?_
  intro p en s m below meth c A hx hb hr hml hlk hown hts hnm hA hP hK hD hS hX ls hl
  have hown : s.vm.findClass RX1 = some m.cls := hown
  have hl : lv_has ls 3 [(0, .ref (h 0))] := hl
  have F1 : Fix p m c cX1_columns 3 s _ RX1 A D ca := ⟨hx, hb, hml, hown, hts, hA, hK⟩
  refine lv_iconst (v := nI 0) hx hb dX1_columns_0 (by decide) ?_
  refine lv_istore_n (lv' := [(1, .int (nI 0)), (0, .ref (h 0))]) hx hb dX1_columns_1 rfl hl (by decide) rfl (fun ls hl => ?_)
  have hP : va_P D vwCl (wSp ca h e o me mo (mid id 0 (fun x => csI e x 5) se) (mid id 0 (fun x => csI o x 5) so) rt aa) s.heap := by rw [mid_0, mid_0]; exact hP
  have hD : va_D A (wSp ca h e o me mo (mid id 0 (fun x => csI e x 5) se) (mid id 0 (fun x => csI o x 5) so) rt aa) := by rw [mid_0, mid_0]; exact hD
  refine col_out e o me mo se so rt aa F1 (fun H locs ls hst hl => ?_) 6 0 (by omega) (by omega) _ _ ls ⟨hP, hD, hS⟩ hl
  obtain ⟨hP, hD, hS⟩ := hst
  obtain ⟨hP, hD⟩ := P_fn (ws' := wSp ca h e o me mo (fun x => csI e x 5) (mid id 5 (fun x => csI o x 5) so) rt aa) hP hD 5 (fun x => csI e x 5) rfl (mid_end (fun q hq => hq)) rfl
  obtain ⟨hP, hD⟩ := P_fn (ws' := wSp ca h e o me mo (fun x => csI e x 5) (fun x => csI o x 5) rt aa) hP hD 6 (fun x => csI o x 5) rfl (mid_end (fun q hq => hq)) rfl
  refine lv_iconst (v := nI 0) hx hb dX1_columns_71 (by decide) ?_
  refine lv_istore_n (lv' := [(1, .int (nI 0)), (0, .ref (h 0))]) hx hb dX1_columns_72 rfl hl (by decide) rfl (fun ls hl => ?_)
  have hP : va_P D vwCl (wSp ca h (mid id 0 (thE e o) e) (mid id 0 (thO e o) o) me mo (fun x => csI e x 5) (fun x => csI o x 5) rt aa) H := by rw [mid_0, mid_0]; exact hP
  have hD : va_D A (wSp ca h (mid id 0 (thE e o) e) (mid id 0 (thO e o) o) me mo (fun x => csI e x 5) (fun x => csI o x 5) rt aa) := by rw [mid_0, mid_0]; exact hD
  refine col_2 e o me mo rt aa F1 (fun H locs ls hst hl => ?_) 26 0 (by omega) (by omega) _ _ ls ⟨hP, hD, hS⟩ hl
  obtain ⟨hP, hD, hS⟩ := hst
  obtain ⟨hP, hD⟩ := P_fn (ws' := wSp ca h ((thE e o)) (mid id 25 (thO e o) o) me mo (fun x => csI e x 5) (fun x => csI o x 5) rt aa) hP hD 1 (thE e o) rfl (mid_end (fun q hq => hq)) rfl
  obtain ⟨hP, hD⟩ := P_fn (ws' := wSp ca h ((thE e o)) ((thO e o)) me mo (fun x => csI e x 5) (fun x => csI o x 5) rt aa) hP hD 2 (thO e o) rfl (mid_end (fun q hq => hq)) rfl
  exact vend hx hb hr hlk () trivial hP hK hD hS (Nat.le_refl _) (Nat.le_refl _) dX1_columns_157
end
section
/-! Sponge: move, rows, mix -/
abbrev rmMix : Room := { frames := 2, cells := 0, slots := 0, locals := 46 }
abbrev S6 : Type := (Nat → Int32) × (Nat → Int32) × (Nat → Int32) × (Nat → Int32) × (Nat → Int32) × (Nat → Int32)
section SPW2
variable {p : Program} {l : Launch} {en : Env} {s : State} {m : MethodId} {args : Array Value} {below : List Frame} {meth : Method} {c : Code} {Q : State → Prop} {D : va_G} {ca : Nat → ClassId} {A : Nat → Prop} {h : Nat → Nat}
set_option maxHeartbeats 1000000 in
set_option maxRecDepth 100000 in
theorem mov_lp (e o me mo se so : Nat → Int32) (rt aa : Int32) (F : Fix p m c cX1_move 6 s args RX1 A D ca)
    (K : ∀ (H : Heap) (locs : List Loc) (ls : Array Slot), Sta D A s (wSp ca h e o (mid FR 25 (fun q => mvE e o (FR q)) me) (mid FR 25 (fun q => mvO e o (FR q)) mo) se so rt aa) H locs → lv_has ls 6 [(1, .int (nI 25)), (0, .ref (h 0))] → W p l en rmCol s m args below meth c H locs 0 0 Q (F0 m 122 ls [])) :
    ∀ (n k : Nat), k ≤ 25 → 25 + 1 ≤ k + n → ∀ (H : Heap) (locs : List Loc) (ls : Array Slot), Sta D A s (wSp ca h e o (mid FR k (fun q => mvE e o (FR q)) me) (mid FR k (fun q => mvO e o (FR q)) mo) se so rt aa) H locs → lv_has ls 6 [(1, .int (nI k)), (0, .ref (h 0))] → W p l en rmCol s m args below meth c H locs 0 0 Q (F0 m 2 ls []) := by
  obtain ⟨hx, hb, hml, hown, hts, hA, hK⟩ := F
  intro n
  induction n with
  | zero => intro k h1 h2; omega
  | succ n ih =>
    intro k hi hn H locs ls hst hl
    obtain ⟨hP, hD, hS⟩ := hst
    refine lv_iload_n hx hb dX1_move_2 rfl (lv_at hl 0 rfl) ?_
    refine lv_bipush (v := nI 25) hx hb dX1_move_3 (by decide) ?_
    refine n_ge (tgt := 122) hx hb (by omega) (by omega) dX1_move_5 (by decide) (fun hc => ?_) (fun hc => ?_)
    ·
      have e5 : k = 25 := by omega
      subst e5
      exact K H locs ls ⟨hP, hD, hS⟩ hl
    ·
      obtain ⟨ht1, ht2⟩ := TT_lt k (by omega)
      have hto := TO_lt k (by omega)
      have hfr : FR (TO k) = k := (FR_TO _ hto k (by omega)).mpr rfl
      refine lv_aload_n hx hb dX1_move_8 rfl (lv_at hl 1 rfl) ?_
      refine va_get (D := D) (ci := 1) (v := .ref (h 7)) (C := RX1) (T := TX1) (N := 9) hx hb hts in_X1 hown hK hP 0 rfl rfl 0 (by decide) (hts _ q56) (fun _ h9 => h9) rfl dX1_move_9 ?_
      refine va_get (D := D) (ci := 2) (v := .ref (h 8)) (C := RX2) (T := TX2) (N := 4) hx hb hts in_X2 hown hK hP 7 rfl rfl 0 (by decide) (hts _ q38) (fun _ h9 => h9) rfl dX1_move_12 ?_
      refine lv_iload_n hx hb dX1_move_15 rfl (lv_at hl 0 rfl) ?_
      refine n_iald (v := nI (TT k)) hx hb hK hP 8 0 rfl rfl (by omega) (by decide) (rfl) dX1_move_16 ?_
      refine lv_istore_n (lv' := [(2, .int (nI (TT k))), (1, .int (nI k)), (0, .ref (h 0))]) hx hb dX1_move_17 rfl hl (by decide) rfl (fun ls hl => ?_)
      refine lv_aload_n hx hb dX1_move_18 rfl (lv_at hl 2 rfl) ?_
      refine va_get (D := D) (ci := 1) (v := .ref (h 7)) (C := RX1) (T := TX1) (N := 9) hx hb hts in_X1 hown hK hP 0 rfl rfl 0 (by decide) (hts _ q56) (fun _ h9 => h9) rfl dX1_move_19 ?_
      refine va_get (D := D) (ci := 2) (v := .ref (h 9)) (C := RX2) (T := TX2) (N := 4) hx hb hts in_X2 hown hK hP 7 rfl rfl 1 (by decide) (hts _ q40) (fun _ h9 => h9) rfl dX1_move_22 ?_
      refine lv_iload_n hx hb dX1_move_25 rfl (lv_at hl 1 rfl) ?_
      refine n_iald (v := nI (TO k)) hx hb hK hP 9 0 rfl rfl (by omega) (by decide) (rfl) dX1_move_26 ?_
      refine lv_istore_n (lv' := [(3, .int (nI (TO k))), (2, .int (nI (TT k))), (1, .int (nI k)), (0, .ref (h 0))]) hx hb dX1_move_27 rfl hl (by decide) rfl (fun ls hl => ?_)
      refine lv_iload_n hx hb dX1_move_28 rfl (lv_at hl 1 rfl) ?_
      refine lv_iconst (v := nI 2) hx hb dX1_move_29 (by decide) ?_
      refine n_div hx hb (by omega) (by omega) (by omega) dX1_move_30 ?_
      refine lv_istore (lv' := [(4, .int (nI ((TT k) / 2))), (3, .int (nI (TO k))), (2, .int (nI (TT k))), (1, .int (nI k)), (0, .ref (h 0))]) hx hb dX1_move_31 hl (by decide) rfl (fun ls hl => ?_)
      refine lv_iload_n hx hb dX1_move_33 rfl (lv_at hl 2 rfl) ?_
      refine lv_iconst (v := nI 2) hx hb dX1_move_34 (by decide) ?_
      refine n_rem hx hb (by omega) (by omega) (by omega) dX1_move_35 ?_
      refine lv_iconst (v := nI 1) hx hb dX1_move_36 (by decide) ?_
      refine n_ne (tgt := 44) hx hb (by omega) (by omega) dX1_move_37 (by decide) (fun hs => ?_) (fun hs => ?_)
      ·
        refine lv_iconst (v := nI 0) hx hb dX1_move_44 (by decide) ?_
        refine lv_istore (lv' := [(5, .int (nI 0)), (4, .int (nI ((TT k) / 2))), (3, .int (nI (TO k))), (2, .int (nI (TT k))), (1, .int (nI k)), (0, .ref (h 0))]) hx hb dX1_move_45 hl (by decide) rfl (fun ls hl => ?_)
        refine lv_aload_n hx hb dX1_move_47 rfl (lv_at hl 5 rfl) ?_
        refine va_get (D := D) (ci := 1) (v := .ref (h 3)) (C := RX1) (T := TX1) (N := 9) hx hb hts in_X1 hown hK hP 0 rfl rfl 3 (by decide) (hts _ q59) (fun _ h9 => h9) rfl dX1_move_48 ?_
        refine lv_iload_n hx hb dX1_move_51 rfl (lv_at hl 2 rfl) ?_
        refine lv_iload hx hb dX1_move_52 (lv_at hl 0 rfl) ?_
        refine n_ifeq (tgt := 73) hx hb (by omega) dX1_move_54 (by decide) (fun hz => ?_) (fun hz => ?_)
        ·
          refine lv_aload_n hx hb dX1_move_73 rfl (lv_at hl 5 rfl) ?_
          refine va_get (D := D) (ci := 1) (v := .ref (h 1)) (C := RX1) (T := TX1) (N := 9) hx hb hts in_X1 hown hK hP 0 rfl rfl 1 (by decide) (hts _ q57) (fun _ h9 => h9) rfl dX1_move_74 ?_
          refine lv_iload_n hx hb dX1_move_77 rfl (lv_at hl 4 rfl) ?_
          refine n_iald (v := e k) hx hb hK hP 1 0 rfl rfl (by omega) (by decide) (rfl) dX1_move_78 ?_
          refine lv_iload hx hb dX1_move_79 (lv_at hl 1 rfl) ?_
          refine cSi (As := [.int (e k), .int (nI ((TT k) / 2))]) (rest := [.int (nI (TO k)), .ref (h 3)]) ⟨hx, hb, hml, hown, hts⟩ (m_rot l _ _) (va_cwS 2 hts (lw_S q166 q167 q16 q168) rfl rfl rfl (by decide +kernel) ⟨Nat.le_of_ble_eq_true rfl, Nat.le_of_ble_eq_true rfl⟩) hP hS hA rfl hl.1 rfl (Nat.le_of_ble_eq_true rfl) dX1_move_81 ⟨Nat.le_of_ble_eq_true rfl, Nat.le_of_ble_eq_true rfl⟩ (fun H locs hP hS => ?_)
          refine n_iast (ws' := wSp ca h e o (mid FR (k + 1) (fun q => mvE e o (FR q)) me) (mid FR k (fun q => mvO e o (FR q)) mo) se so rt aa) hx hb hK hP hD hS 3 0 (mid FR (k + 1) (fun q => mvE e o (FR q)) me) rfl rfl (by omega) (by decide) (mid_up (fun q hq => FR_TO q hq k (by omega)) (by show _ = mvE e o (FR (TO k)); rw [hfr]; unfold mvE; rw [if_neg hs])) rfl dX1_move_84 (fun H locs hP hD hS => ?_)
          refine lv_aload_n hx hb dX1_move_85 rfl (lv_at hl 5 rfl) ?_
          refine va_get (D := D) (ci := 1) (v := .ref (h 4)) (C := RX1) (T := TX1) (N := 9) hx hb hts in_X1 hown hK hP 0 rfl rfl 4 (by decide) (hts _ q60) (fun _ h9 => h9) rfl dX1_move_86 ?_
          refine lv_iload_n hx hb dX1_move_89 rfl (lv_at hl 2 rfl) ?_
          refine lv_iload hx hb dX1_move_90 (lv_at hl 0 rfl) ?_
          refine n_ifeq (tgt := 104) hx hb (by omega) dX1_move_92 (by decide) (fun hz2 => ?_) (fun hz2 => ?_)
          ·
            refine lv_aload_n hx hb dX1_move_104 rfl (lv_at hl 5 rfl) ?_
            refine va_get (D := D) (ci := 1) (v := .ref (h 2)) (C := RX1) (T := TX1) (N := 9) hx hb hts in_X1 hown hK hP 0 rfl rfl 2 (by decide) (hts _ q58) (fun _ h9 => h9) rfl dX1_move_105 ?_
            refine lv_iload_n hx hb dX1_move_108 rfl (lv_at hl 4 rfl) ?_
            refine n_iald (v := o k) hx hb hK hP 2 0 rfl rfl (by omega) (by decide) (rfl) dX1_move_109 ?_
            refine lv_iload hx hb dX1_move_110 (lv_at hl 1 rfl) ?_
            refine cSi (As := [.int (o k), .int (nI ((TT k) / 2))]) (rest := [.int (nI (TO k)), .ref (h 4)]) ⟨hx, hb, hml, hown, hts⟩ (m_rot l _ _) (va_cwS 2 hts (lw_S q166 q167 q16 q168) rfl rfl rfl (by decide +kernel) ⟨Nat.le_of_ble_eq_true rfl, Nat.le_of_ble_eq_true rfl⟩) hP hS hA rfl hl.1 rfl (Nat.le_of_ble_eq_true rfl) dX1_move_112 ⟨Nat.le_of_ble_eq_true rfl, Nat.le_of_ble_eq_true rfl⟩ (fun H locs hP hS => ?_)
            refine n_iast (ws' := wSp ca h e o (mid FR (k + 1) (fun q => mvE e o (FR q)) me) (mid FR (k + 1) (fun q => mvO e o (FR q)) mo) se so rt aa) hx hb hK hP hD hS 4 0 (mid FR (k + 1) (fun q => mvO e o (FR q)) mo) rfl rfl (by omega) (by decide) (mid_up (fun q hq => FR_TO q hq k (by omega)) (by show _ = mvO e o (FR (TO k)); rw [hfr]; unfold mvO; rw [if_neg hs])) rfl dX1_move_115 (fun H locs hP hD hS => ?_)
            refine lv_iinc (v := nI (k + 1)) (lv' := [(1, .int (nI (k + 1))), (5, .int (nI 0)), (4, .int (nI ((TT k) / 2))), (3, .int (nI (TO k))), (2, .int (nI (TT k))), (0, .ref (h 0))]) hx hb dX1_move_116 hl (k := 4) rfl (nI_add _ 1) (by decide) rfl (fun ls hl => ?_)
            refine lv_goto (tgt := 2) hx hb dX1_move_119 (by decide) ?_
            exact ih (k + 1) (by omega) (by omega) H locs ls ⟨hP, hD, hS⟩ (lv_sub hl [0, 5] rfl)
          ·
            exact absurd hz2 (by decide)
        ·
          exact absurd hz (by decide)
      ·
        refine lv_iconst (v := nI 1) hx hb dX1_move_40 (by decide) ?_
        refine lv_goto (tgt := 45) hx hb dX1_move_41 (by decide) ?_
        refine lv_istore (lv' := [(5, .int (nI 1)), (4, .int (nI ((TT k) / 2))), (3, .int (nI (TO k))), (2, .int (nI (TT k))), (1, .int (nI k)), (0, .ref (h 0))]) hx hb dX1_move_45 hl (by decide) rfl (fun ls hl => ?_)
        refine lv_aload_n hx hb dX1_move_47 rfl (lv_at hl 5 rfl) ?_
        refine va_get (D := D) (ci := 1) (v := .ref (h 3)) (C := RX1) (T := TX1) (N := 9) hx hb hts in_X1 hown hK hP 0 rfl rfl 3 (by decide) (hts _ q59) (fun _ h9 => h9) rfl dX1_move_48 ?_
        refine lv_iload_n hx hb dX1_move_51 rfl (lv_at hl 2 rfl) ?_
        refine lv_iload hx hb dX1_move_52 (lv_at hl 0 rfl) ?_
        refine n_ifeq (tgt := 73) hx hb (by omega) dX1_move_54 (by decide) (fun hz => ?_) (fun hz => ?_)
        ·
          exact absurd hz (by decide)
        ·
          refine lv_aload_n hx hb dX1_move_57 rfl (lv_at hl 5 rfl) ?_
          refine va_get (D := D) (ci := 1) (v := .ref (h 2)) (C := RX1) (T := TX1) (N := 9) hx hb hts in_X1 hown hK hP 0 rfl rfl 2 (by decide) (hts _ q58) (fun _ h9 => h9) rfl dX1_move_58 ?_
          refine lv_iload_n hx hb dX1_move_61 rfl (lv_at hl 4 rfl) ?_
          refine n_iald (v := o k) hx hb hK hP 2 0 rfl rfl (by omega) (by decide) (rfl) dX1_move_62 ?_
          refine lv_iload hx hb dX1_move_63 (lv_at hl 1 rfl) ?_
          refine lv_iconst (v := nI 1) hx hb dX1_move_65 (by decide) ?_
          refine n_add hx hb dX1_move_66 ?_
          refine cSi (As := [.int (o k), .int (nI (((TT k) / 2) + 1))]) (rest := [.int (nI (TO k)), .ref (h 3)]) ⟨hx, hb, hml, hown, hts⟩ (m_rot l _ _) (va_cwS 2 hts (lw_S q166 q167 q16 q168) rfl rfl rfl (by decide +kernel) ⟨Nat.le_of_ble_eq_true rfl, Nat.le_of_ble_eq_true rfl⟩) hP hS hA rfl hl.1 rfl (Nat.le_of_ble_eq_true rfl) dX1_move_67 ⟨Nat.le_of_ble_eq_true rfl, Nat.le_of_ble_eq_true rfl⟩ (fun H locs hP hS => ?_)
          refine lv_goto (tgt := 84) hx hb dX1_move_70 (by decide) ?_
          refine n_iast (ws' := wSp ca h e o (mid FR (k + 1) (fun q => mvE e o (FR q)) me) (mid FR k (fun q => mvO e o (FR q)) mo) se so rt aa) hx hb hK hP hD hS 3 0 (mid FR (k + 1) (fun q => mvE e o (FR q)) me) rfl rfl (by omega) (by decide) (mid_up (fun q hq => FR_TO q hq k (by omega)) (by show _ = mvE e o (FR (TO k)); rw [hfr]; unfold mvE; rw [if_pos hs])) rfl dX1_move_84 (fun H locs hP hD hS => ?_)
          refine lv_aload_n hx hb dX1_move_85 rfl (lv_at hl 5 rfl) ?_
          refine va_get (D := D) (ci := 1) (v := .ref (h 4)) (C := RX1) (T := TX1) (N := 9) hx hb hts in_X1 hown hK hP 0 rfl rfl 4 (by decide) (hts _ q60) (fun _ h9 => h9) rfl dX1_move_86 ?_
          refine lv_iload_n hx hb dX1_move_89 rfl (lv_at hl 2 rfl) ?_
          refine lv_iload hx hb dX1_move_90 (lv_at hl 0 rfl) ?_
          refine n_ifeq (tgt := 104) hx hb (by omega) dX1_move_92 (by decide) (fun hz2 => ?_) (fun hz2 => ?_)
          ·
            exact absurd hz2 (by decide)
          ·
            refine lv_aload_n hx hb dX1_move_95 rfl (lv_at hl 5 rfl) ?_
            refine va_get (D := D) (ci := 1) (v := .ref (h 1)) (C := RX1) (T := TX1) (N := 9) hx hb hts in_X1 hown hK hP 0 rfl rfl 1 (by decide) (hts _ q57) (fun _ h9 => h9) rfl dX1_move_96 ?_
            refine lv_iload_n hx hb dX1_move_99 rfl (lv_at hl 4 rfl) ?_
            refine n_iald (v := e k) hx hb hK hP 1 0 rfl rfl (by omega) (by decide) (rfl) dX1_move_100 ?_
            refine lv_goto (tgt := 110) hx hb dX1_move_101 (by decide) ?_
            refine lv_iload hx hb dX1_move_110 (lv_at hl 1 rfl) ?_
            refine cSi (As := [.int (e k), .int (nI ((TT k) / 2))]) (rest := [.int (nI (TO k)), .ref (h 4)]) ⟨hx, hb, hml, hown, hts⟩ (m_rot l _ _) (va_cwS 2 hts (lw_S q166 q167 q16 q168) rfl rfl rfl (by decide +kernel) ⟨Nat.le_of_ble_eq_true rfl, Nat.le_of_ble_eq_true rfl⟩) hP hS hA rfl hl.1 rfl (Nat.le_of_ble_eq_true rfl) dX1_move_112 ⟨Nat.le_of_ble_eq_true rfl, Nat.le_of_ble_eq_true rfl⟩ (fun H locs hP hS => ?_)
            refine n_iast (ws' := wSp ca h e o (mid FR (k + 1) (fun q => mvE e o (FR q)) me) (mid FR (k + 1) (fun q => mvO e o (FR q)) mo) se so rt aa) hx hb hK hP hD hS 4 0 (mid FR (k + 1) (fun q => mvO e o (FR q)) mo) rfl rfl (by omega) (by decide) (mid_up (fun q hq => FR_TO q hq k (by omega)) (by show _ = mvO e o (FR (TO k)); rw [hfr]; unfold mvO; rw [if_pos hs])) rfl dX1_move_115 (fun H locs hP hD hS => ?_)
            refine lv_iinc (v := nI (k + 1)) (lv' := [(1, .int (nI (k + 1))), (5, .int (nI 1)), (4, .int (nI ((TT k) / 2))), (3, .int (nI (TO k))), (2, .int (nI (TT k))), (0, .ref (h 0))]) hx hb dX1_move_116 hl (k := 4) rfl (nI_add _ 1) (by decide) rfl (fun ls hl => ?_)
            refine lv_goto (tgt := 2) hx hb dX1_move_119 (by decide) ?_
            exact ih (k + 1) (by omega) (by omega) H locs ls ⟨hP, hD, hS⟩ (lv_sub hl [0, 5] rfl)
set_option maxHeartbeats 1000000 in
set_option maxRecDepth 100000 in
theorem row_lp (e o me mo se so : Nat → Int32) (rt aa : Int32) (F : Fix p m c cX1_rows 5 s args RX1 A D ca)
    (K : ∀ (H : Heap) (locs : List Loc) (ls : Array Slot), Sta D A s (wSp ca h (mid id 25 (chI me) e) (mid id 25 (chI mo) o) me mo se so rt aa) H locs → lv_has ls 5 [(1, .int (nI 25)), (0, .ref (h 0))] → W p l en rmz s m args below meth c H locs 0 0 Q (F0 m 99 ls [])) :
    ∀ (n k : Nat), k ≤ 25 → 25 + 1 ≤ k + n → ∀ (H : Heap) (locs : List Loc) (ls : Array Slot), Sta D A s (wSp ca h (mid id k (chI me) e) (mid id k (chI mo) o) me mo se so rt aa) H locs → lv_has ls 5 [(1, .int (nI k)), (0, .ref (h 0))] → W p l en rmz s m args below meth c H locs 0 0 Q (F0 m 2 ls []) := by
  obtain ⟨hx, hb, hml, hown, hts, hA, hK⟩ := F
  intro n
  induction n with
  | zero => intro k h1 h2; omega
  | succ n ih =>
    intro k hi hn H locs ls hst hl
    obtain ⟨hP, hD, hS⟩ := hst
    refine lv_iload_n hx hb dX1_rows_2 rfl (lv_at hl 0 rfl) ?_
    refine lv_bipush (v := nI 25) hx hb dX1_rows_3 (by decide) ?_
    refine n_ge (tgt := 99) hx hb (by omega) (by omega) dX1_rows_5 (by decide) (fun hc => ?_) (fun hc => ?_)
    ·
      have e5 : k = 25 := by omega
      subst e5
      exact K H locs ls ⟨hP, hD, hS⟩ hl
    ·
      refine lv_iload_n hx hb dX1_rows_8 rfl (lv_at hl 0 rfl) ?_
      refine lv_iload_n hx hb dX1_rows_9 rfl (lv_at hl 0 rfl) ?_
      refine lv_iconst (v := nI 5) hx hb dX1_rows_10 (by decide) ?_
      refine n_rem hx hb (by omega) (by omega) (by omega) dX1_rows_11 ?_
      refine n_sub hx hb (by omega) dX1_rows_12 ?_
      refine lv_istore_n (lv' := [(2, .int (nI (k - (k % 5)))), (1, .int (nI k)), (0, .ref (h 0))]) hx hb dX1_rows_13 rfl hl (by decide) rfl (fun ls hl => ?_)
      refine lv_iload_n hx hb dX1_rows_14 rfl (lv_at hl 0 rfl) ?_
      refine lv_iload_n hx hb dX1_rows_15 rfl (lv_at hl 1 rfl) ?_
      refine lv_iconst (v := nI 1) hx hb dX1_rows_16 (by decide) ?_
      refine n_add hx hb dX1_rows_17 ?_
      refine lv_iload_n hx hb dX1_rows_18 rfl (lv_at hl 0 rfl) ?_
      refine n_sub hx hb (by omega) dX1_rows_19 ?_
      refine lv_iconst (v := nI 5) hx hb dX1_rows_20 (by decide) ?_
      refine n_rem hx hb (by omega) (by omega) (by omega) dX1_rows_21 ?_
      refine n_add hx hb dX1_rows_22 ?_
      refine tpi (y := nI (5 * (k / 5) + (k % 5 + 1) % 5)) (congrArg nI (by omega)) ?_
      refine lv_istore_n (lv' := [(3, .int (nI (5 * (k / 5) + (k % 5 + 1) % 5))), (2, .int (nI (k - (k % 5)))), (1, .int (nI k)), (0, .ref (h 0))]) hx hb dX1_rows_23 rfl hl (by decide) rfl (fun ls hl => ?_)
      refine lv_iload_n hx hb dX1_rows_24 rfl (lv_at hl 1 rfl) ?_
      refine lv_iload_n hx hb dX1_rows_25 rfl (lv_at hl 2 rfl) ?_
      refine lv_iconst (v := nI 2) hx hb dX1_rows_26 (by decide) ?_
      refine n_add hx hb dX1_rows_27 ?_
      refine lv_iload_n hx hb dX1_rows_28 rfl (lv_at hl 1 rfl) ?_
      refine n_sub hx hb (by omega) dX1_rows_29 ?_
      refine lv_iconst (v := nI 5) hx hb dX1_rows_30 (by decide) ?_
      refine n_rem hx hb (by omega) (by omega) (by omega) dX1_rows_31 ?_
      refine n_add hx hb dX1_rows_32 ?_
      refine tpi (y := nI (5 * (k / 5) + (k % 5 + 2) % 5)) (congrArg nI (by omega)) ?_
      refine lv_istore (lv' := [(4, .int (nI (5 * (k / 5) + (k % 5 + 2) % 5))), (3, .int (nI (5 * (k / 5) + (k % 5 + 1) % 5))), (2, .int (nI (k - (k % 5)))), (1, .int (nI k)), (0, .ref (h 0))]) hx hb dX1_rows_33 hl (by decide) rfl (fun ls hl => ?_)
      refine lv_aload_n hx hb dX1_rows_35 rfl (lv_at hl 4 rfl) ?_
      refine va_get (D := D) (ci := 1) (v := .ref (h 1)) (C := RX1) (T := TX1) (N := 9) hx hb hts in_X1 hown hK hP 0 rfl rfl 1 (by decide) (hts _ q57) (fun _ h9 => h9) rfl dX1_rows_36 ?_
      refine lv_iload_n hx hb dX1_rows_39 rfl (lv_at hl 3 rfl) ?_
      refine lv_aload_n hx hb dX1_rows_40 rfl (lv_at hl 4 rfl) ?_
      refine va_get (D := D) (ci := 1) (v := .ref (h 3)) (C := RX1) (T := TX1) (N := 9) hx hb hts in_X1 hown hK hP 0 rfl rfl 3 (by decide) (hts _ q59) (fun _ h9 => h9) rfl dX1_rows_41 ?_
      refine lv_iload_n hx hb dX1_rows_44 rfl (lv_at hl 3 rfl) ?_
      refine n_iald (v := me k) hx hb hK hP 3 0 rfl rfl (by omega) (by decide) (rfl) dX1_rows_45 ?_
      refine lv_aload_n hx hb dX1_rows_46 rfl (lv_at hl 4 rfl) ?_
      refine va_get (D := D) (ci := 1) (v := .ref (h 3)) (C := RX1) (T := TX1) (N := 9) hx hb hts in_X1 hown hK hP 0 rfl rfl 3 (by decide) (hts _ q59) (fun _ h9 => h9) rfl dX1_rows_47 ?_
      refine lv_iload_n hx hb dX1_rows_50 rfl (lv_at hl 1 rfl) ?_
      refine n_iald (v := me (5 * (k / 5) + (k % 5 + 1) % 5)) hx hb hK hP 3 0 rfl rfl (by omega) (by decide) (rfl) dX1_rows_51 ?_
      refine lv_iconst (v := -1) hx hb dX1_rows_52 (by decide) ?_
      refine lv_ixor hx hb dX1_rows_53 ?_
      refine lv_aload_n hx hb dX1_rows_54 rfl (lv_at hl 4 rfl) ?_
      refine va_get (D := D) (ci := 1) (v := .ref (h 3)) (C := RX1) (T := TX1) (N := 9) hx hb hts in_X1 hown hK hP 0 rfl rfl 3 (by decide) (hts _ q59) (fun _ h9 => h9) rfl dX1_rows_55 ?_
      refine lv_iload hx hb dX1_rows_58 (lv_at hl 0 rfl) ?_
      refine n_iald (v := me (5 * (k / 5) + (k % 5 + 2) % 5)) hx hb hK hP 3 0 rfl rfl (by omega) (by decide) (rfl) dX1_rows_60 ?_
      refine lv_iand hx hb dX1_rows_61 ?_
      refine lv_ixor hx hb dX1_rows_62 ?_
      refine n_iast (ws' := wSp ca h (mid id (k + 1) (chI me) e) (mid id k (chI mo) o) me mo se so rt aa) hx hb hK hP hD hS 1 0 (mid id (k + 1) (chI me) e) rfl rfl (by omega) (by decide) (mid_up (fun _ _ => Iff.rfl) rfl) rfl dX1_rows_63 (fun H locs hP hD hS => ?_)
      refine lv_aload_n hx hb dX1_rows_64 rfl (lv_at hl 4 rfl) ?_
      refine va_get (D := D) (ci := 1) (v := .ref (h 2)) (C := RX1) (T := TX1) (N := 9) hx hb hts in_X1 hown hK hP 0 rfl rfl 2 (by decide) (hts _ q58) (fun _ h9 => h9) rfl dX1_rows_65 ?_
      refine lv_iload_n hx hb dX1_rows_68 rfl (lv_at hl 3 rfl) ?_
      refine lv_aload_n hx hb dX1_rows_69 rfl (lv_at hl 4 rfl) ?_
      refine va_get (D := D) (ci := 1) (v := .ref (h 4)) (C := RX1) (T := TX1) (N := 9) hx hb hts in_X1 hown hK hP 0 rfl rfl 4 (by decide) (hts _ q60) (fun _ h9 => h9) rfl dX1_rows_70 ?_
      refine lv_iload_n hx hb dX1_rows_73 rfl (lv_at hl 3 rfl) ?_
      refine n_iald (v := mo k) hx hb hK hP 4 0 rfl rfl (by omega) (by decide) (rfl) dX1_rows_74 ?_
      refine lv_aload_n hx hb dX1_rows_75 rfl (lv_at hl 4 rfl) ?_
      refine va_get (D := D) (ci := 1) (v := .ref (h 4)) (C := RX1) (T := TX1) (N := 9) hx hb hts in_X1 hown hK hP 0 rfl rfl 4 (by decide) (hts _ q60) (fun _ h9 => h9) rfl dX1_rows_76 ?_
      refine lv_iload_n hx hb dX1_rows_79 rfl (lv_at hl 1 rfl) ?_
      refine n_iald (v := mo (5 * (k / 5) + (k % 5 + 1) % 5)) hx hb hK hP 4 0 rfl rfl (by omega) (by decide) (rfl) dX1_rows_80 ?_
      refine lv_iconst (v := -1) hx hb dX1_rows_81 (by decide) ?_
      refine lv_ixor hx hb dX1_rows_82 ?_
      refine lv_aload_n hx hb dX1_rows_83 rfl (lv_at hl 4 rfl) ?_
      refine va_get (D := D) (ci := 1) (v := .ref (h 4)) (C := RX1) (T := TX1) (N := 9) hx hb hts in_X1 hown hK hP 0 rfl rfl 4 (by decide) (hts _ q60) (fun _ h9 => h9) rfl dX1_rows_84 ?_
      refine lv_iload hx hb dX1_rows_87 (lv_at hl 0 rfl) ?_
      refine n_iald (v := mo (5 * (k / 5) + (k % 5 + 2) % 5)) hx hb hK hP 4 0 rfl rfl (by omega) (by decide) (rfl) dX1_rows_89 ?_
      refine lv_iand hx hb dX1_rows_90 ?_
      refine lv_ixor hx hb dX1_rows_91 ?_
      refine n_iast (ws' := wSp ca h (mid id (k + 1) (chI me) e) (mid id (k + 1) (chI mo) o) me mo se so rt aa) hx hb hK hP hD hS 2 0 (mid id (k + 1) (chI mo) o) rfl rfl (by omega) (by decide) (mid_up (fun _ _ => Iff.rfl) rfl) rfl dX1_rows_92 (fun H locs hP hD hS => ?_)
      refine lv_iinc (v := nI (k + 1)) (lv' := [(1, .int (nI (k + 1))), (4, .int (nI (5 * (k / 5) + (k % 5 + 2) % 5))), (3, .int (nI (5 * (k / 5) + (k % 5 + 1) % 5))), (2, .int (nI (k - (k % 5)))), (0, .ref (h 0))]) hx hb dX1_rows_93 hl (k := 3) rfl (nI_add _ 1) (by decide) rfl (fun ls hl => ?_)
      refine lv_goto (tgt := 2) hx hb dX1_rows_96 (by decide) ?_
      exact ih (k + 1) (by omega) (by omega) H locs ls ⟨hP, hD, hS⟩ (lv_sub hl [0, 4] rfl)
end SPW2
set_option maxHeartbeats 1000000 in
set_option maxRecDepth 100000 in
theorem m_move (l : Launch) (D : va_G) (ca : Nat → ClassId) (h : Nat → Nat) (e o me mo se so : Nat → Int32) (rt aa : Int32) : MV l yX1_move cX1_move 6 rmCol D ca noX [.ref (h 0)] (wSp ca h e o me mo se so rt aa) (S := Unit) (fun _ => True) (fun _ => wSp ca h e o (fun q => mvE e o (FR q)) (fun q => mvO e o (FR q)) se so rt aa) 0 0 := by
  refine MV.of (by decide) (Nat.le_of_ble_eq_true rfl) ?_
  intro p en s m below meth c A hx hb hr hml hlk hown hts hnm hA hP hK hD hS hX ls hl
  have hown : s.vm.findClass RX1 = some m.cls := hown
  have hl : lv_has ls 6 [(0, .ref (h 0))] := hl
  have F1 : Fix p m c cX1_move 6 s _ RX1 A D ca := ⟨hx, hb, hml, hown, hts, hA, hK⟩
  refine lv_iconst (v := nI 0) hx hb dX1_move_0 (by decide) ?_
  refine lv_istore_n (lv' := [(1, .int (nI 0)), (0, .ref (h 0))]) hx hb dX1_move_1 rfl hl (by decide) rfl (fun ls hl => ?_)
  have hP : va_P D vwCl (wSp ca h e o (mid FR 0 (fun q => mvE e o (FR q)) me) (mid FR 0 (fun q => mvO e o (FR q)) mo) se so rt aa) s.heap := by rw [mid_0, mid_0]; exact hP
  have hD : va_D A (wSp ca h e o (mid FR 0 (fun q => mvE e o (FR q)) me) (mid FR 0 (fun q => mvO e o (FR q)) mo) se so rt aa) := by rw [mid_0, mid_0]; exact hD
  refine mov_lp e o me mo se so rt aa F1 (fun H locs ls hst hl => ?_) 26 0 (by omega) (by omega) _ _ ls ⟨hP, hD, hS⟩ hl
  obtain ⟨hP, hD, hS⟩ := hst
  obtain ⟨hP, hD⟩ := P_fn (ws' := wSp ca h e o (fun q => mvE e o (FR q)) (mid FR 25 (fun q => mvO e o (FR q)) mo) se so rt aa) hP hD 3 (fun q => mvE e o (FR q)) rfl (mid_end (FR_lt)) rfl
  obtain ⟨hP, hD⟩ := P_fn (ws' := wSp ca h e o (fun q => mvE e o (FR q)) (fun q => mvO e o (FR q)) se so rt aa) hP hD 4 (fun q => mvO e o (FR q)) rfl (mid_end (FR_lt)) rfl
  exact vend hx hb hr hlk () trivial hP hK hD hS (Nat.le_refl _) (Nat.le_refl _) dX1_move_122
set_option maxHeartbeats 1000000 in
set_option maxRecDepth 100000 in
theorem m_rows (l : Launch) (D : va_G) (ca : Nat → ClassId) (h : Nat → Nat) (e o me mo se so : Nat → Int32) (rt aa : Int32) : MV l yX1_rows cX1_rows 5 rmz D ca noX [.ref (h 0)] (wSp ca h e o me mo se so rt aa) (S := Unit) (fun _ => True) (fun _ => wSp ca h ((chI me)) ((chI mo)) me mo se so rt aa) 0 0 := by
  refine MV.of (by decide) (Nat.le_of_ble_eq_true rfl) ?_
  intro p en s m below meth c A hx hb hr hml hlk hown hts hnm hA hP hK hD hS hX ls hl
  have hown : s.vm.findClass RX1 = some m.cls := hown
  have hl : lv_has ls 5 [(0, .ref (h 0))] := hl
  have F1 : Fix p m c cX1_rows 5 s _ RX1 A D ca := ⟨hx, hb, hml, hown, hts, hA, hK⟩
  refine lv_iconst (v := nI 0) hx hb dX1_rows_0 (by decide) ?_
  refine lv_istore_n (lv' := [(1, .int (nI 0)), (0, .ref (h 0))]) hx hb dX1_rows_1 rfl hl (by decide) rfl (fun ls hl => ?_)
  have hP : va_P D vwCl (wSp ca h (mid id 0 (chI me) e) (mid id 0 (chI mo) o) me mo se so rt aa) s.heap := by rw [mid_0, mid_0]; exact hP
  have hD : va_D A (wSp ca h (mid id 0 (chI me) e) (mid id 0 (chI mo) o) me mo se so rt aa) := by rw [mid_0, mid_0]; exact hD
  refine row_lp e o me mo se so rt aa F1 (fun H locs ls hst hl => ?_) 26 0 (by omega) (by omega) _ _ ls ⟨hP, hD, hS⟩ hl
  obtain ⟨hP, hD, hS⟩ := hst
  obtain ⟨hP, hD⟩ := P_fn (ws' := wSp ca h ((chI me)) (mid id 25 (chI mo) o) me mo se so rt aa) hP hD 1 ((chI me)) rfl (mid_end (fun q hq => hq)) rfl
  obtain ⟨hP, hD⟩ := P_fn (ws' := wSp ca h ((chI me)) ((chI mo)) me mo se so rt aa) hP hD 2 ((chI mo)) rfl (mid_end (fun q hq => hq)) rfl
  exact vend hx hb hr hlk () trivial hP hK hD hS (Nat.le_refl _) (Nat.le_refl _) dX1_rows_99
section SPW3
variable {p : Program} {l : Launch} {en : Env} {s : State} {m : MethodId} {args : Array Value} {below : List Frame} {meth : Method} {c : Code} {Q : State → Prop} {D : va_G} {ca : Nat → ClassId} {A : Nat → Prop} {h : Nat → Nat}
set_option maxHeartbeats 1000000 in
set_option maxRecDepth 100000 in
theorem mix_lp (w : Nat → Int64) (rt aa : Int32) (F : Fix p m c cX1_mix 2 s args RX1 A D ca)
    (K : ∀ (e o me mo se so : Nat → Int32) (H : Heap) (locs : List Loc) (ls : Array Slot), Rel (mxL w 24) e o → Sta D A s (wSp ca h e o me mo se so rt aa) H locs → lv_has ls 2 [(1, .int (nI 24)), (0, .ref (h 0))] → W p l en rmMix s m args below meth c H locs 0 0 Q (F0 m 62 ls [])) :
    ∀ (n k : Nat), k ≤ 24 → 24 + 1 ≤ k + n → ∀ (e o me mo se so : Nat → Int32) (H : Heap) (locs : List Loc) (ls : Array Slot), Rel (mxL w k) e o → Sta D A s (wSp ca h e o me mo se so rt aa) H locs → lv_has ls 2 [(1, .int (nI k)), (0, .ref (h 0))] → W p l en rmMix s m args below meth c H locs 0 0 Q (F0 m 2 ls []) := by
  obtain ⟨hx, hb, hml, hown, hts, hA, hK⟩ := F
  intro n
  induction n with
  | zero => intro k h1 h2; omega
  | succ n ih =>
    intro k hi hn e o me mo se so H locs ls hrel hst hl
    obtain ⟨hP, hD, hS⟩ := hst
    refine lv_iload_n hx hb dX1_mix_2 rfl (lv_at hl 0 rfl) ?_
    refine lv_bipush (v := nI 24) hx hb dX1_mix_3 (by decide) ?_
    refine n_ge (tgt := 62) hx hb (by omega) (by omega) dX1_mix_5 (by decide) (fun hc => ?_) (fun hc => ?_)
    ·
      have e5 : k = 24 := by omega
      subst e5
      exact K e o me mo se so H locs ls hrel ⟨hP, hD, hS⟩ hl
    ·
      refine lv_aload_n hx hb dX1_mix_8 rfl (lv_at hl 1 rfl) ?_
      refine cVv (wr := []) (As := []) (rest := []) ⟨hx, hb, hml, hown, hts⟩ (m_columns l D ca h e o me mo se so rt aa) (cwV 0 hts (lw_V q162 q164 qs3 q13 q165) rfl rfl rfl (by decide +kernel) ⟨Nat.le_of_ble_eq_true rfl, Nat.le_of_ble_eq_true rfl⟩) hK hP hD hS hA [0, 1, 2, 3, 4, 5, 6, 7, 8, 9, 10, 11] [] rfl rfl (by decide) (by decide) (by decide) 0 1 rfl rfl rfl (fun _ _ _ _ _ _ => trivial) (fun _ _ _ => trivial) rfl hl.1 rfl (Nat.le_of_ble_eq_true rfl) dX1_mix_9 ⟨Nat.le_of_ble_eq_true rfl, Nat.le_of_ble_eq_true rfl⟩ (fun _ H locs hpo hP hD hS => ?_)
      have hP : va_P D vwCl (wSp ca h (thE e o) (thO e o) me mo (fun x => csI e x 5) (fun x => csI o x 5) rt aa) H := hP
      have hD : va_D A (wSp ca h (thE e o) (thO e o) me mo (fun x => csI e x 5) (fun x => csI o x 5) rt aa) := hD
      refine lv_aload_n hx hb dX1_mix_12 rfl (lv_at hl 1 rfl) ?_
      refine cVv (wr := []) (As := []) (rest := []) ⟨hx, hb, hml, hown, hts⟩ (m_move l D ca h (thE e o) (thO e o) me mo (fun x => csI e x 5) (fun x => csI o x 5) rt aa) (cwV 0 hts (lw_V q169 q171 qs4 q13 q172) rfl rfl rfl (by decide +kernel) ⟨Nat.le_of_ble_eq_true rfl, Nat.le_of_ble_eq_true rfl⟩) hK hP hD hS hA [0, 1, 2, 3, 4, 5, 6, 7, 8, 9, 10, 11] [] rfl rfl (by decide) (by decide) (by decide) 0 1 rfl rfl rfl (fun _ _ _ _ _ _ => trivial) (fun _ _ _ => trivial) rfl hl.1 rfl (Nat.le_of_ble_eq_true rfl) dX1_mix_13 ⟨Nat.le_of_ble_eq_true rfl, Nat.le_of_ble_eq_true rfl⟩ (fun _ H locs hpo hP hD hS => ?_)
      have hP : va_P D vwCl (wSp ca h (thE e o) (thO e o) (fun q => mvE (thE e o) (thO e o) (FR q)) (fun q => mvO (thE e o) (thO e o) (FR q)) (fun x => csI e x 5) (fun x => csI o x 5) rt aa) H := hP
      have hD : va_D A (wSp ca h (thE e o) (thO e o) (fun q => mvE (thE e o) (thO e o) (FR q)) (fun q => mvO (thE e o) (thO e o) (FR q)) (fun x => csI e x 5) (fun x => csI o x 5) rt aa) := hD
      refine lv_aload_n hx hb dX1_mix_16 rfl (lv_at hl 1 rfl) ?_
      refine cVv (wr := []) (As := []) (rest := []) ⟨hx, hb, hml, hown, hts⟩ (m_rows l D ca h (thE e o) (thO e o) (fun q => mvE (thE e o) (thO e o) (FR q)) (fun q => mvO (thE e o) (thO e o) (FR q)) (fun x => csI e x 5) (fun x => csI o x 5) rt aa) (cwV 0 hts (lw_V q173 q175 qs5 q13 q176) rfl rfl rfl (by decide +kernel) ⟨Nat.le_of_ble_eq_true rfl, Nat.le_of_ble_eq_true rfl⟩) hK hP hD hS hA [0, 1, 2, 3, 4, 5, 6, 7, 8, 9, 10, 11] [] rfl rfl (by decide) (by decide) (by decide) 0 1 rfl rfl rfl (fun _ _ _ _ _ _ => trivial) (fun _ _ _ => trivial) rfl hl.1 rfl (Nat.le_of_ble_eq_true rfl) dX1_mix_17 ⟨Nat.le_of_ble_eq_true rfl, Nat.le_of_ble_eq_true rfl⟩ (fun _ H locs hpo hP hD hS => ?_)
      have hP : va_P D vwCl (wSp ca h (rdE e o) (rdO e o) (fun q => mvE (thE e o) (thO e o) (FR q)) (fun q => mvO (thE e o) (thO e o) (FR q)) (fun x => csI e x 5) (fun x => csI o x 5) rt aa) H := hP
      have hD : va_D A (wSp ca h (rdE e o) (rdO e o) (fun q => mvE (thE e o) (thO e o) (FR q)) (fun q => mvO (thE e o) (thO e o) (FR q)) (fun x => csI e x 5) (fun x => csI o x 5) rt aa) := hD
      refine lv_aload_n hx hb dX1_mix_20 rfl (lv_at hl 1 rfl) ?_
      refine va_get (D := D) (ci := 1) (v := .ref (h 1)) (C := RX1) (T := TX1) (N := 9) hx hb hts in_X1 hown hK hP 0 rfl rfl 1 (by decide) (hts _ q57) (fun _ h9 => h9) rfl dX1_mix_21 ?_
      refine lv_iconst (v := nI 0) hx hb dX1_mix_24 (by decide) ?_
      refine lv_dup2_11 hx hb dX1_mix_25 rfl rfl ?_
      refine n_iald (v := rdE e o 0) hx hb hK hP 1 0 rfl rfl (by omega) (by decide) (rfl) dX1_mix_26 ?_
      refine lv_aload_n hx hb dX1_mix_27 rfl (lv_at hl 1 rfl) ?_
      refine va_get (D := D) (ci := 1) (v := .ref (h 7)) (C := RX1) (T := TX1) (N := 9) hx hb hts in_X1 hown hK hP 0 rfl rfl 0 (by decide) (hts _ q56) (fun _ h9 => h9) rfl dX1_mix_28 ?_
      refine va_get (D := D) (ci := 2) (v := .ref (h 10)) (C := RX2) (T := TX2) (N := 4) hx hb hts in_X2 hown hK hP 7 rfl rfl 2 (by decide) (hts _ q42) (fun _ h9 => h9) rfl dX1_mix_31 ?_
      refine lv_iload_n hx hb dX1_mix_34 rfl (lv_at hl 0 rfl) ?_
      refine n_iald (v := evP k 7) hx hb hK hP 10 0 rfl rfl (by omega) (by decide) (rfl) dX1_mix_35 ?_
      refine lv_ixor hx hb dX1_mix_36 ?_
      refine n_iast (ws' := wSp ca h (fun p => if p = 0 then rdE e o 0 ^^^ evP k 7 else rdE e o p) (rdO e o) (fun q => mvE (thE e o) (thO e o) (FR q)) (fun q => mvO (thE e o) (thO e o) (FR q)) (fun x => csI e x 5) (fun x => csI o x 5) rt aa) hx hb hK hP hD hS 1 0 (fun p => if p = 0 then rdE e o 0 ^^^ evP k 7 else rdE e o p) rfl rfl (by omega) (by decide) (fun _ _ => rfl) rfl dX1_mix_37 (fun H locs hP hD hS => ?_)
      refine lv_aload_n hx hb dX1_mix_38 rfl (lv_at hl 1 rfl) ?_
      refine va_get (D := D) (ci := 1) (v := .ref (h 2)) (C := RX1) (T := TX1) (N := 9) hx hb hts in_X1 hown hK hP 0 rfl rfl 2 (by decide) (hts _ q58) (fun _ h9 => h9) rfl dX1_mix_39 ?_
      refine lv_iconst (v := nI 0) hx hb dX1_mix_42 (by decide) ?_
      refine lv_dup2_11 hx hb dX1_mix_43 rfl rfl ?_
      refine n_iald (v := rdO e o 0) hx hb hK hP 2 0 rfl rfl (by omega) (by decide) (rfl) dX1_mix_44 ?_
      refine lv_aload_n hx hb dX1_mix_45 rfl (lv_at hl 1 rfl) ?_
      refine va_get (D := D) (ci := 1) (v := .ref (h 7)) (C := RX1) (T := TX1) (N := 9) hx hb hts in_X1 hown hK hP 0 rfl rfl 0 (by decide) (hts _ q56) (fun _ h9 => h9) rfl dX1_mix_46 ?_
      refine va_get (D := D) (ci := 2) (v := .ref (h 11)) (C := RX2) (T := TX2) (N := 4) hx hb hts in_X2 hown hK hP 7 rfl rfl 3 (by decide) (hts _ q44) (fun _ h9 => h9) rfl dX1_mix_49 ?_
      refine lv_iload_n hx hb dX1_mix_52 rfl (lv_at hl 0 rfl) ?_
      refine n_iald (v := odP k 7) hx hb hK hP 11 0 rfl rfl (by omega) (by decide) (rfl) dX1_mix_53 ?_
      refine lv_ixor hx hb dX1_mix_54 ?_
      refine n_iast (ws' := wSp ca h (fun p => if p = 0 then rdE e o 0 ^^^ evP k 7 else rdE e o p) (fun p => if p = 0 then rdO e o 0 ^^^ odP k 7 else rdO e o p) (fun q => mvE (thE e o) (thO e o) (FR q)) (fun q => mvO (thE e o) (thO e o) (FR q)) (fun x => csI e x 5) (fun x => csI o x 5) rt aa) hx hb hK hP hD hS 2 0 (fun p => if p = 0 then rdO e o 0 ^^^ odP k 7 else rdO e o p) rfl rfl (by omega) (by decide) (fun _ _ => rfl) rfl dX1_mix_55 (fun H locs hP hD hS => ?_)
      refine lv_iinc (v := nI (k + 1)) (lv' := [(1, .int (nI (k + 1))), (0, .ref (h 0))]) hx hb dX1_mix_56 hl (k := 0) rfl (nI_add _ 1) (by decide) rfl (fun ls hl => ?_)
      refine lv_goto (tgt := 2) hx hb dX1_mix_59 (by decide) ?_
      exact ih (k + 1) (by omega) (by omega) _ _ _ _ _ _ H locs ls (rd_rel k (by omega) hrel) ⟨hP, hD, hS⟩ hl
end SPW3
set_option maxHeartbeats 1000000 in
set_option maxRecDepth 100000 in
theorem m_mix (l : Launch) (D : va_G) (ca : Nat → ClassId) (h : Nat → Nat) (e o me mo se so : Nat → Int32) (rt aa : Int32) (w : Nat → Int64) (hrel : Rel w e o) : MV l yX1_mix cX1_mix 2 rmMix D ca noX [.ref (h 0)] (wSp ca h e o me mo se so rt aa) (S := S6) (fun u => Rel (mixL w) u.1 u.2.1) (fun u => wSp ca h u.1 u.2.1 u.2.2.1 u.2.2.2.1 u.2.2.2.2.1 u.2.2.2.2.2 rt aa) 0 0 := by
  refine MV.of (by decide) (Nat.le_of_ble_eq_true rfl) ?_
  intro p en s m below meth c A hx hb hr hml hlk hown hts hnm hA hP hK hD hS hX ls hl
  have hown : s.vm.findClass RX1 = some m.cls := hown
  have hl : lv_has ls 2 [(0, .ref (h 0))] := hl
  have F1 : Fix p m c cX1_mix 2 s _ RX1 A D ca := ⟨hx, hb, hml, hown, hts, hA, hK⟩
  refine lv_iconst (v := nI 0) hx hb dX1_mix_0 (by decide) ?_
  refine lv_istore_n (lv' := [(1, .int (nI 0)), (0, .ref (h 0))]) hx hb dX1_mix_1 rfl hl (by decide) rfl (fun ls hl => ?_)
  refine mix_lp w rt aa F1 (fun e o me mo se so H locs ls hrel hst hl => ?_) 25 0 (by omega) (by omega) _ _ _ _ _ _ _ _ ls hrel ⟨hP, hD, hS⟩ hl
  obtain ⟨hP, hD, hS⟩ := hst
  exact vend hx hb hr hlk (e, o, me, mo, se, so) hrel hP hK hD hS (Nat.le_refl _) (Nat.le_refl _) dX1_mix_62
end
section
/-! Sponge: join, take, end, give, begin -/
abbrev rmJn : Room := { frames := 1, cells := 0, slots := 0, locals := 20 }
abbrev rmTk : Room := { frames := 3, cells := 0, slots := 0, locals := 67 }
theorem upd_x (f : Nat → Int32) (k : Nat) (x : Int32) (q : Nat) : upd f k (f k ^^^ x) q = if q = k then f q ^^^ x else f q := by
  show (if q = k then f k ^^^ x else f q) = _
  by_cases h : q = k
  · rw [if_pos h, if_pos h, h]
  · rw [if_neg h, if_neg h]
set_option maxHeartbeats 1000000 in
set_option maxRecDepth 100000 in
theorem m_join (l : Launch) (D : va_G) (ca : Nat → ClassId) (h : Nat → Nat) (e o me mo se so : Nat → Int32) (rt aa : Int32) (k : Nat) (hk : k < 200) (b : Int32) : MV l yX1_join cX1_join 5 rmJn D ca noX [.ref (h 0), .int (nI k), .int b] (wSp ca h e o me mo se so rt aa) (S := Unit) (fun _ => True) (fun _ => wSp ca h (jnE e k b) (jnO o k b) me mo se so rt aa) 0 0 := by
  refine MV.of (by decide) (Nat.le_of_ble_eq_true rfl) ?_
  intro p en s m below meth c A hx hb hr hml hlk hown hts hnm hA hP hK hD hS hX ls hl
  have hown : s.vm.findClass RX1 = some m.cls := hown
  have hl : lv_has ls 5 [(0, .ref (h 0)), (1, .int (nI k)), (2, .int b)] := hl
  refine lv_iload_n hx hb dX1_join_0 rfl (lv_at hl 1 rfl) ?_
  refine lv_bipush (v := nI 8) hx hb dX1_join_1 (by decide) ?_
  refine n_div hx hb (by omega) (by omega) (by omega) dX1_join_3 ?_
  refine lv_istore_n (lv' := [(3, .int (nI (k / 8))), (0, .ref (h 0)), (1, .int (nI k)), (2, .int b)]) hx hb dX1_join_4 rfl hl (by decide) rfl (fun ls hl => ?_)
  refine lv_iconst (v := nI 4) hx hb dX1_join_5 (by decide) ?_
  refine lv_iload_n hx hb dX1_join_6 rfl (lv_at hl 2 rfl) ?_
  refine lv_bipush (v := nI 8) hx hb dX1_join_7 (by decide) ?_
  refine n_rem hx hb (by omega) (by omega) (by omega) dX1_join_9 ?_
  refine n_mul hx hb dX1_join_10 ?_
  refine lv_istore (lv' := [(4, .int (nI (4 * (k % 8)))), (3, .int (nI (k / 8))), (0, .ref (h 0)), (1, .int (nI k)), (2, .int b)]) hx hb dX1_join_11 hl (by decide) rfl (fun ls hl => ?_)
  refine lv_aload_n hx hb dX1_join_13 rfl (lv_at hl 2 rfl) ?_
  refine va_get (D := D) (ci := 1) (v := .ref (h 1)) (C := RX1) (T := TX1) (N := 9) hx hb hts in_X1 hown hK hP 0 rfl rfl 1 (by decide) (hts _ q57) (fun _ h9 => h9) rfl dX1_join_14 ?_
  refine lv_iload_n hx hb dX1_join_17 rfl (lv_at hl 1 rfl) ?_
  refine lv_dup2_11 hx hb dX1_join_18 rfl rfl ?_
  refine n_iald (v := e (k / 8)) hx hb hK hP 1 0 rfl rfl (by omega) (by decide) (rfl) dX1_join_19 ?_
  refine lv_iload_n hx hb dX1_join_20 rfl (lv_at hl 4 rfl) ?_
  refine cSi (As := [.int b]) (rest := [.int (e (k / 8)), .int (nI (k / 8)), .ref (h 1)]) ⟨hx, hb, hml, hown, hts⟩ (m_half l _) (va_cwS 1 hts (lw_S q155 q156 q13 q157) rfl rfl rfl (by decide +kernel) ⟨Nat.le_of_ble_eq_true rfl, Nat.le_of_ble_eq_true rfl⟩) hP hS hA rfl hl.1 rfl (Nat.le_of_ble_eq_true rfl) dX1_join_21 ⟨Nat.le_of_ble_eq_true rfl, Nat.le_of_ble_eq_true rfl⟩ (fun H locs hP hS => ?_)
  refine lv_iload hx hb dX1_join_24 (lv_at hl 0 rfl) ?_
  refine lv_ishl hx hb dX1_join_26 ?_
  refine lv_ixor hx hb dX1_join_27 ?_
  refine n_iast (ws' := wSp ca h (jnE e k b) o me mo se so rt aa) hx hb hK hP hD hS 1 0 (jnE e k b) rfl rfl (by omega) (by decide) (fun q _ => upd_x e _ _ q) rfl dX1_join_28 (fun H locs hP hD hS => ?_)
  refine lv_aload_n hx hb dX1_join_29 rfl (lv_at hl 2 rfl) ?_
  refine va_get (D := D) (ci := 1) (v := .ref (h 2)) (C := RX1) (T := TX1) (N := 9) hx hb hts in_X1 hown hK hP 0 rfl rfl 2 (by decide) (hts _ q58) (fun _ h9 => h9) rfl dX1_join_30 ?_
  refine lv_iload_n hx hb dX1_join_33 rfl (lv_at hl 1 rfl) ?_
  refine lv_dup2_11 hx hb dX1_join_34 rfl rfl ?_
  refine n_iald (v := o (k / 8)) hx hb hK hP 2 0 rfl rfl (by omega) (by decide) (rfl) dX1_join_35 ?_
  refine lv_iload_n hx hb dX1_join_36 rfl (lv_at hl 4 rfl) ?_
  refine lv_iconst (v := nI 1) hx hb dX1_join_37 (by decide) ?_
  refine lv_ishr hx hb dX1_join_38 ?_
  refine cSi (As := [.int (b >>> (nI 1 &&& 31))]) (rest := [.int (o (k / 8)), .int (nI (k / 8)), .ref (h 2)]) ⟨hx, hb, hml, hown, hts⟩ (m_half l _) (va_cwS 1 hts (lw_S q155 q156 q13 q157) rfl rfl rfl (by decide +kernel) ⟨Nat.le_of_ble_eq_true rfl, Nat.le_of_ble_eq_true rfl⟩) hP hS hA rfl hl.1 rfl (Nat.le_of_ble_eq_true rfl) dX1_join_39 ⟨Nat.le_of_ble_eq_true rfl, Nat.le_of_ble_eq_true rfl⟩ (fun H locs hP hS => ?_)
  refine lv_iload hx hb dX1_join_42 (lv_at hl 0 rfl) ?_
  refine lv_ishl hx hb dX1_join_44 ?_
  refine lv_ixor hx hb dX1_join_45 ?_
  refine n_iast (ws' := wSp ca h (jnE e k b) (jnO o k b) me mo se so rt aa) hx hb hK hP hD hS 2 0 (jnO o k b) rfl rfl (by omega) (by decide) (fun q _ => upd_x o _ _ q) rfl dX1_join_46 (fun H locs hP hD hS => ?_)
  exact vend hx hb hr hlk () trivial hP hK hD hS (Nat.le_refl _) (Nat.le_refl _) dX1_join_47
set_option maxHeartbeats 1000000 in
set_option maxRecDepth 100000 in
theorem m_take (l : Launch) (D : va_G) (ca : Nat → ClassId) (h : Nat → Nat) (e o me mo se so : Nat → Int32) (r a k : Nat) (hr0 : r < 200) (ha : a < r) (hk : k < 256) (w : Nat → Int64) (hrel : Rel w e o) : MV l yX1_take cX1_take 2 rmTk D ca noX [.ref (h 0), .int (nI k)] (wSp ca h e o me mo se so (nI r) (nI a)) (S := S6) (fun u => Rel (stpL r w a (nI k)) u.1 u.2.1) (fun u => wSp ca h u.1 u.2.1 u.2.2.1 u.2.2.2.1 u.2.2.2.2.1 u.2.2.2.2.2 (nI r) (nI (if a + 1 = r then 0 else a + 1))) 0 0 := by
  refine MV.of (by decide) (Nat.le_of_ble_eq_true rfl) ?_
  intro p en s m below meth c A hx hb hr hml hlk hown hts hnm hA hP hK hD hS hX ls hl
  have hown : s.vm.findClass RX1 = some m.cls := hown
  have hl : lv_has ls 2 [(0, .ref (h 0)), (1, .int (nI k))] := hl
  refine lv_aload_n hx hb dX1_take_0 rfl (lv_at hl 0 rfl) ?_
  refine lv_aload_n hx hb dX1_take_1 rfl (lv_at hl 0 rfl) ?_
  refine lv_dup hx hb dX1_take_2 rfl ?_
  refine va_get (D := D) (ci := 1) (v := .int (nI a)) (C := RX1) (T := TX1) (N := 9) hx hb hts in_X1 hown hK hP 0 rfl rfl 8 (by decide) (hts _ q64) (fun _ h9 => h9) rfl dX1_take_3 ?_
  refine lv_dup_x1 hx hb dX1_take_6 rfl rfl ?_
  refine lv_iconst (v := nI 1) hx hb dX1_take_7 (by decide) ?_
  refine n_add hx hb dX1_take_8 ?_
  refine va_put (D := D) (ci := 1) (v := .int (nI (a + 1))) (ty := .int) (C := RX1) (T := TX1) (N := 9) hx hb hts in_X1 tyX1 tyX1_ok nmX1 hown hK hP hD hS 0 rfl rfl 8 (by decide) (hts _ q64) (fun _ h9 => h9) rfl (by decide +kernel) rfl rfl (Nat.le_of_ble_eq_true rfl) dX1_take_9 (fun H locs hP hD hS => ?_)
  have hP : va_P D vwCl (wSp ca h e o me mo se so (nI r) (nI (a + 1))) H := hP
  have hD : va_D A (wSp ca h e o me mo se so (nI r) (nI (a + 1))) := hD
  refine lv_iload_n hx hb dX1_take_12 rfl (lv_at hl 1 rfl) ?_
  refine cVv (wr := []) (As := [.int (nI a), .int (nI k)]) (rest := []) ⟨hx, hb, hml, hown, hts⟩ (m_join l D ca h e o me mo se so (nI r) (nI (a + 1)) a (by omega) (nI k)) (cwV 2 hts (lw_V q151 q153 qs1 q13 q154) rfl rfl rfl (by decide +kernel) ⟨Nat.le_of_ble_eq_true rfl, Nat.le_of_ble_eq_true rfl⟩) hK hP hD hS hA [0, 1, 2, 3, 4, 5, 6, 7, 8, 9, 10, 11] [] rfl rfl (by decide) (by decide) (by decide) 0 1 rfl rfl rfl (fun _ _ _ _ _ _ => trivial) (fun _ _ _ => trivial) rfl hl.1 rfl (Nat.le_of_ble_eq_true rfl) dX1_take_13 ⟨Nat.le_of_ble_eq_true rfl, Nat.le_of_ble_eq_true rfl⟩ (fun _ H locs hpo hP hD hS => ?_)
  have hP : va_P D vwCl (wSp ca h (jnE e a (nI k)) (jnO o a (nI k)) me mo se so (nI r) (nI (a + 1))) H := hP
  have hD : va_D A (wSp ca h (jnE e a (nI k)) (jnO o a (nI k)) me mo se so (nI r) (nI (a + 1))) := hD
  have hrel2 := jn_rel hrel a k hk
  refine lv_aload_n hx hb dX1_take_16 rfl (lv_at hl 0 rfl) ?_
  refine va_get (D := D) (ci := 1) (v := .int (nI (a + 1))) (C := RX1) (T := TX1) (N := 9) hx hb hts in_X1 hown hK hP 0 rfl rfl 8 (by decide) (hts _ q64) (fun _ h9 => h9) rfl dX1_take_17 ?_
  refine lv_aload_n hx hb dX1_take_20 rfl (lv_at hl 0 rfl) ?_
  refine va_get (D := D) (ci := 1) (v := .int (nI r)) (C := RX1) (T := TX1) (N := 9) hx hb hts in_X1 hown hK hP 0 rfl rfl 7 (by decide) (hts _ q63) (fun _ h9 => h9) rfl dX1_take_21 ?_
  refine n_ne (tgt := 36) hx hb (by omega) (by omega) dX1_take_24 (by decide) (fun hc => ?_) (fun hc => ?_)
  ·
    have hP : va_P D vwCl (wSp ca h (jnE e a (nI k)) (jnO o a (nI k)) me mo se so (nI r) (nI (if a + 1 = r then 0 else a + 1))) H := by rw [if_neg hc]; exact hP
    have hD : va_D A (wSp ca h (jnE e a (nI k)) (jnO o a (nI k)) me mo se so (nI r) (nI (if a + 1 = r then 0 else a + 1))) := by rw [if_neg hc]; exact hD
    exact vend hx hb hr hlk (jnE e a (nI k), jnO o a (nI k), me, mo, se, so) (by show Rel (stpL r w a (nI k)) _ _; unfold stpL; rw [if_neg hc]; exact hrel2) hP hK hD hS (Nat.le_refl _) (Nat.le_refl _) dX1_take_36
  ·
    refine lv_aload_n hx hb dX1_take_27 rfl (lv_at hl 0 rfl) ?_
    refine cVv (wr := []) (As := []) (rest := []) ⟨hx, hb, hml, hown, hts⟩ (m_mix l D ca h (jnE e a (nI k)) (jnO o a (nI k)) me mo se so (nI r) (nI (a + 1)) (xbL w a (nI k)) hrel2) (cwV 0 hts (lw_V q158 q160 qs2 q13 q161) rfl rfl rfl (by decide +kernel) ⟨Nat.le_of_ble_eq_true rfl, Nat.le_of_ble_eq_true rfl⟩) hK hP hD hS hA [0, 1, 2, 3, 4, 5, 6, 7, 8, 9, 10, 11] [] rfl rfl (by decide) (by decide) (by decide) 0 1 rfl rfl rfl (fun _ _ _ _ _ _ => trivial) (fun _ _ _ => trivial) rfl hl.1 rfl (Nat.le_of_ble_eq_true rfl) dX1_take_28 ⟨Nat.le_of_ble_eq_true rfl, Nat.le_of_ble_eq_true rfl⟩ (fun ⟨e2, o2, me, mo, se, so⟩ H locs hpo hP hD hS => ?_)
    have hP : va_P D vwCl (wSp ca h e2 o2 me mo se so (nI r) (nI (a + 1))) H := hP
    have hD : va_D A (wSp ca h e2 o2 me mo se so (nI r) (nI (a + 1))) := hD
    have hpo : Rel (mixL (xbL w a (nI k))) e2 o2 := hpo
    refine lv_aload_n hx hb dX1_take_31 rfl (lv_at hl 0 rfl) ?_
    refine lv_iconst (v := nI 0) hx hb dX1_take_32 (by decide) ?_
    refine va_put (D := D) (ci := 1) (v := .int (nI 0)) (ty := .int) (C := RX1) (T := TX1) (N := 9) hx hb hts in_X1 tyX1 tyX1_ok nmX1 hown hK hP hD hS 0 rfl rfl 8 (by decide) (hts _ q64) (fun _ h9 => h9) rfl (by decide +kernel) rfl rfl (Nat.le_of_ble_eq_true rfl) dX1_take_33 (fun H locs hP hD hS => ?_)
    have hP : va_P D vwCl (wSp ca h e2 o2 me mo se so (nI r) (nI 0)) H := hP
    have hD : va_D A (wSp ca h e2 o2 me mo se so (nI r) (nI 0)) := hD
    have hP : va_P D vwCl (wSp ca h e2 o2 me mo se so (nI r) (nI (if a + 1 = r then 0 else a + 1))) H := by rw [if_pos hc]; exact hP
    have hD : va_D A (wSp ca h e2 o2 me mo se so (nI r) (nI (if a + 1 = r then 0 else a + 1))) := by rw [if_pos hc]; exact hD
    exact vend hx hb hr hlk (e2, o2, me, mo, se, so) (by show Rel (stpL r w a (nI k)) _ _; unfold stpL; rw [if_pos hc]; exact hpo) hP hK hD hS (Nat.le_refl _) (Nat.le_refl _) dX1_take_36
set_option maxHeartbeats 1000000 in
set_option maxRecDepth 100000 in
theorem m_end (l : Launch) (D : va_G) (ca : Nat → ClassId) (h : Nat → Nat) (e o me mo se so : Nat → Int32) (r a k : Nat) (hr0 : r < 200) (ha : a < r) (hk : k < 256) (w : Nat → Int64) (hrel : Rel w e o) : MV l yX1_end cX1_end 2 rmTk D ca noX [.ref (h 0), .int (nI k)] (wSp ca h e o me mo se so (nI r) (nI a)) (S := S6) (fun u => Rel (finL r w a (nI k)) u.1 u.2.1) (fun u => wSp ca h u.1 u.2.1 u.2.2.1 u.2.2.2.1 u.2.2.2.2.1 u.2.2.2.2.2 (nI r) (nI 0)) 0 0 := by
  refine MV.of (by decide) (Nat.le_of_ble_eq_true rfl) ?_
  intro p en s m below meth c A hx hb hr hml hlk hown hts hnm hA hP hK hD hS hX ls hl
  have hown : s.vm.findClass RX1 = some m.cls := hown
  have hl : lv_has ls 2 [(0, .ref (h 0)), (1, .int (nI k))] := hl
  refine lv_aload_n hx hb dX1_end_0 rfl (lv_at hl 0 rfl) ?_
  refine lv_aload_n hx hb dX1_end_1 rfl (lv_at hl 0 rfl) ?_
  refine va_get (D := D) (ci := 1) (v := .int (nI a)) (C := RX1) (T := TX1) (N := 9) hx hb hts in_X1 hown hK hP 0 rfl rfl 8 (by decide) (hts _ q64) (fun _ h9 => h9) rfl dX1_end_2 ?_
  refine lv_iload_n hx hb dX1_end_5 rfl (lv_at hl 1 rfl) ?_
  refine cVv (wr := []) (As := [.int (nI a), .int (nI k)]) (rest := []) ⟨hx, hb, hml, hown, hts⟩ (m_join l D ca h e o me mo se so (nI r) (nI a) a (by omega) (nI k)) (cwV 2 hts (lw_V q151 q153 qs1 q13 q154) rfl rfl rfl (by decide +kernel) ⟨Nat.le_of_ble_eq_true rfl, Nat.le_of_ble_eq_true rfl⟩) hK hP hD hS hA [0, 1, 2, 3, 4, 5, 6, 7, 8, 9, 10, 11] [] rfl rfl (by decide) (by decide) (by decide) 0 1 rfl rfl rfl (fun _ _ _ _ _ _ => trivial) (fun _ _ _ => trivial) rfl hl.1 rfl (Nat.le_of_ble_eq_true rfl) dX1_end_6 ⟨Nat.le_of_ble_eq_true rfl, Nat.le_of_ble_eq_true rfl⟩ (fun _ H locs hpo hP hD hS => ?_)
  have hP : va_P D vwCl (wSp ca h (jnE e a (nI k)) (jnO o a (nI k)) me mo se so (nI r) (nI a)) H := hP
  have hD : va_D A (wSp ca h (jnE e a (nI k)) (jnO o a (nI k)) me mo se so (nI r) (nI a)) := hD
  have hrel2 := jn_rel hrel a k hk
  refine lv_aload_n hx hb dX1_end_9 rfl (lv_at hl 0 rfl) ?_
  refine lv_aload_n hx hb dX1_end_10 rfl (lv_at hl 0 rfl) ?_
  refine va_get (D := D) (ci := 1) (v := .int (nI r)) (C := RX1) (T := TX1) (N := 9) hx hb hts in_X1 hown hK hP 0 rfl rfl 7 (by decide) (hts _ q63) (fun _ h9 => h9) rfl dX1_end_11 ?_
  refine lv_iconst (v := nI 1) hx hb dX1_end_14 (by decide) ?_
  refine n_sub hx hb (by omega) dX1_end_15 ?_
  refine lv_sipush (v := nI 128) hx hb dX1_end_16 (by decide) ?_
  refine cVv (wr := []) (As := [.int (nI (r - 1)), .int (nI 128)]) (rest := []) ⟨hx, hb, hml, hown, hts⟩ (m_join l D ca h (jnE e a (nI k)) (jnO o a (nI k)) me mo se so (nI r) (nI a) (r - 1) (by omega) (nI 128)) (cwV 2 hts (lw_V q151 q153 qs1 q13 q154) rfl rfl rfl (by decide +kernel) ⟨Nat.le_of_ble_eq_true rfl, Nat.le_of_ble_eq_true rfl⟩) hK hP hD hS hA [0, 1, 2, 3, 4, 5, 6, 7, 8, 9, 10, 11] [] rfl rfl (by decide) (by decide) (by decide) 0 1 rfl rfl rfl (fun _ _ _ _ _ _ => trivial) (fun _ _ _ => trivial) rfl hl.1 rfl (Nat.le_of_ble_eq_true rfl) dX1_end_19 ⟨Nat.le_of_ble_eq_true rfl, Nat.le_of_ble_eq_true rfl⟩ (fun _ H locs hpo hP hD hS => ?_)
  have hP : va_P D vwCl (wSp ca h (jnE (jnE e a (nI k)) (r - 1) (nI 128)) (jnO (jnO o a (nI k)) (r - 1) (nI 128)) me mo se so (nI r) (nI a)) H := hP
  have hD : va_D A (wSp ca h (jnE (jnE e a (nI k)) (r - 1) (nI 128)) (jnO (jnO o a (nI k)) (r - 1) (nI 128)) me mo se so (nI r) (nI a)) := hD
  have hrel3 := jn_rel hrel2 (r - 1) 128 (by decide)
  refine lv_aload_n hx hb dX1_end_22 rfl (lv_at hl 0 rfl) ?_
  refine cVv (wr := []) (As := []) (rest := []) ⟨hx, hb, hml, hown, hts⟩ (m_mix l D ca h (jnE (jnE e a (nI k)) (r - 1) (nI 128)) (jnO (jnO o a (nI k)) (r - 1) (nI 128)) me mo se so (nI r) (nI a) _ hrel3) (cwV 0 hts (lw_V q158 q160 qs2 q13 q161) rfl rfl rfl (by decide +kernel) ⟨Nat.le_of_ble_eq_true rfl, Nat.le_of_ble_eq_true rfl⟩) hK hP hD hS hA [0, 1, 2, 3, 4, 5, 6, 7, 8, 9, 10, 11] [] rfl rfl (by decide) (by decide) (by decide) 0 1 rfl rfl rfl (fun _ _ _ _ _ _ => trivial) (fun _ _ _ => trivial) rfl hl.1 rfl (Nat.le_of_ble_eq_true rfl) dX1_end_23 ⟨Nat.le_of_ble_eq_true rfl, Nat.le_of_ble_eq_true rfl⟩ (fun ⟨e2, o2, me, mo, se, so⟩ H locs hpo hP hD hS => ?_)
  have hP : va_P D vwCl (wSp ca h e2 o2 me mo se so (nI r) (nI a)) H := hP
  have hD : va_D A (wSp ca h e2 o2 me mo se so (nI r) (nI a)) := hD
  refine lv_aload_n hx hb dX1_end_26 rfl (lv_at hl 0 rfl) ?_
  refine lv_iconst (v := nI 0) hx hb dX1_end_27 (by decide) ?_
  refine va_put (D := D) (ci := 1) (v := .int (nI 0)) (ty := .int) (C := RX1) (T := TX1) (N := 9) hx hb hts in_X1 tyX1 tyX1_ok nmX1 hown hK hP hD hS 0 rfl rfl 8 (by decide) (hts _ q64) (fun _ h9 => h9) rfl (by decide +kernel) rfl rfl (Nat.le_of_ble_eq_true rfl) dX1_end_28 (fun H locs hP hD hS => ?_)
  have hP : va_P D vwCl (wSp ca h e2 o2 me mo se so (nI r) (nI 0)) H := hP
  have hD : va_D A (wSp ca h e2 o2 me mo se so (nI r) (nI 0)) := hD
  exact vend hx hb hr hlk (e2, o2, me, mo, se, so) hpo hP hK hD hS (Nat.le_refl _) (Nat.le_refl _) dX1_end_31
set_option maxHeartbeats 1000000 in
set_option maxRecDepth 100000 in
theorem m_give (l : Launch) (D : va_G) (ca : Nat → ClassId) (h : Nat → Nat) (e o me mo se so : Nat → Int32) (r a : Nat) (hr1 : 0 < r) (hr0 : r < 200) (ha : a ≤ r) (w : Nat → Int64) (hrel : Rel w e o) : MI l yX1_give cX1_give 3 .int rmTk D ca noX [.ref (h 0)] (wSp ca h e o me mo se so (nI r) (nI a)) (S := S6) (fun v u => v = obL (if a = r then mixL w else w) (if a = r then 0 else a) ∧ Rel (if a = r then mixL w else w) u.1 u.2.1) (fun u => wSp ca h u.1 u.2.1 u.2.2.1 u.2.2.2.1 u.2.2.2.2.1 u.2.2.2.2.2 (nI r) (nI ((if a = r then 0 else a) + 1))) 0 0 := by
  refine MI.of (by decide) (Nat.le_of_ble_eq_true rfl) ?_
  intro p en s m below meth c A hx hb hr hml hlk hown hts hnm hA hP hK hD hS hX ls hl
  have hown : s.vm.findClass RX1 = some m.cls := hown
  have hl : lv_has ls 3 [(0, .ref (h 0))] := hl
  refine lv_aload_n hx hb dX1_give_0 rfl (lv_at hl 0 rfl) ?_
  refine va_get (D := D) (ci := 1) (v := .int (nI a)) (C := RX1) (T := TX1) (N := 9) hx hb hts in_X1 hown hK hP 0 rfl rfl 8 (by decide) (hts _ q64) (fun _ h9 => h9) rfl dX1_give_1 ?_
  refine lv_aload_n hx hb dX1_give_4 rfl (lv_at hl 0 rfl) ?_
  refine va_get (D := D) (ci := 1) (v := .int (nI r)) (C := RX1) (T := TX1) (N := 9) hx hb hts in_X1 hown hK hP 0 rfl rfl 7 (by decide) (hts _ q63) (fun _ h9 => h9) rfl dX1_give_5 ?_
  refine n_ne (tgt := 20) hx hb (by omega) (by omega) dX1_give_8 (by decide) (fun hc => ?_) (fun hc => ?_)
  ·
    refine lv_aload_n hx hb dX1_give_20 rfl (lv_at hl 0 rfl) ?_
    refine va_get (D := D) (ci := 1) (v := .int (nI a)) (C := RX1) (T := TX1) (N := 9) hx hb hts in_X1 hown hK hP 0 rfl rfl 8 (by decide) (hts _ q64) (fun _ h9 => h9) rfl dX1_give_21 ?_
    refine lv_bipush (v := nI 8) hx hb dX1_give_24 (by decide) ?_
    refine n_div hx hb (by omega) (by omega) (by omega) dX1_give_26 ?_
    refine lv_istore_n (lv' := [(1, .int (nI (a / 8))), (0, .ref (h 0))]) hx hb dX1_give_27 rfl hl (by decide) rfl (fun ls hl => ?_)
    refine lv_iconst (v := nI 4) hx hb dX1_give_28 (by decide) ?_
    refine lv_aload_n hx hb dX1_give_29 rfl (lv_at hl 1 rfl) ?_
    refine va_get (D := D) (ci := 1) (v := .int (nI a)) (C := RX1) (T := TX1) (N := 9) hx hb hts in_X1 hown hK hP 0 rfl rfl 8 (by decide) (hts _ q64) (fun _ h9 => h9) rfl dX1_give_30 ?_
    refine lv_bipush (v := nI 8) hx hb dX1_give_33 (by decide) ?_
    refine n_rem hx hb (by omega) (by omega) (by omega) dX1_give_35 ?_
    refine n_mul hx hb dX1_give_36 ?_
    refine lv_istore_n (lv' := [(2, .int (nI (4 * (a % 8)))), (1, .int (nI (a / 8))), (0, .ref (h 0))]) hx hb dX1_give_37 rfl hl (by decide) rfl (fun ls hl => ?_)
    refine lv_aload_n hx hb dX1_give_38 rfl (lv_at hl 2 rfl) ?_
    refine lv_dup hx hb dX1_give_39 rfl ?_
    refine va_get (D := D) (ci := 1) (v := .int (nI a)) (C := RX1) (T := TX1) (N := 9) hx hb hts in_X1 hown hK hP 0 rfl rfl 8 (by decide) (hts _ q64) (fun _ h9 => h9) rfl dX1_give_40 ?_
    refine lv_iconst (v := nI 1) hx hb dX1_give_43 (by decide) ?_
    refine n_add hx hb dX1_give_44 ?_
    refine va_put (D := D) (ci := 1) (v := .int (nI (a + 1))) (ty := .int) (C := RX1) (T := TX1) (N := 9) hx hb hts in_X1 tyX1 tyX1_ok nmX1 hown hK hP hD hS 0 rfl rfl 8 (by decide) (hts _ q64) (fun _ h9 => h9) rfl (by decide +kernel) rfl rfl (Nat.le_of_ble_eq_true rfl) dX1_give_45 (fun H locs hP hD hS => ?_)
    have hP : va_P D vwCl (wSp ca h e o me mo se so (nI r) (nI (a + 1))) H := hP
    have hD : va_D A (wSp ca h e o me mo se so (nI r) (nI (a + 1))) := hD
    refine lv_aload_n hx hb dX1_give_48 rfl (lv_at hl 2 rfl) ?_
    refine va_get (D := D) (ci := 1) (v := .ref (h 1)) (C := RX1) (T := TX1) (N := 9) hx hb hts in_X1 hown hK hP 0 rfl rfl 1 (by decide) (hts _ q57) (fun _ h9 => h9) rfl dX1_give_49 ?_
    refine lv_iload_n hx hb dX1_give_52 rfl (lv_at hl 1 rfl) ?_
    refine n_iald (v := e (a / 8)) hx hb hK hP 1 0 rfl rfl (by omega) (by decide) (rfl) dX1_give_53 ?_
    refine lv_iload_n hx hb dX1_give_54 rfl (lv_at hl 0 rfl) ?_
    refine lv_iushr hx hb dX1_give_55 rfl ?_
    refine lv_bipush (v := nI 15) hx hb dX1_give_56 (by decide) ?_
    refine lv_iand hx hb dX1_give_58 ?_
    refine cSi (As := [.int ((((e (a / 8)).toUInt32 >>> ((nI (4 * (a % 8))).toUInt32 &&& Int32.toUInt32 31)).toInt32) &&& (nI 15))]) (rest := []) ⟨hx, hb, hml, hown, hts⟩ (m_apart l _) (va_cwS 1 hts (lw_S q191 q192 q13 q193) rfl rfl rfl (by decide +kernel) ⟨Nat.le_of_ble_eq_true rfl, Nat.le_of_ble_eq_true rfl⟩) hP hS hA rfl hl.1 rfl (Nat.le_of_ble_eq_true rfl) dX1_give_59 ⟨Nat.le_of_ble_eq_true rfl, Nat.le_of_ble_eq_true rfl⟩ (fun H locs hP hS => ?_)
    refine lv_aload_n hx hb dX1_give_62 rfl (lv_at hl 2 rfl) ?_
    refine va_get (D := D) (ci := 1) (v := .ref (h 2)) (C := RX1) (T := TX1) (N := 9) hx hb hts in_X1 hown hK hP 0 rfl rfl 2 (by decide) (hts _ q58) (fun _ h9 => h9) rfl dX1_give_63 ?_
    refine lv_iload_n hx hb dX1_give_66 rfl (lv_at hl 1 rfl) ?_
    refine n_iald (v := o (a / 8)) hx hb hK hP 2 0 rfl rfl (by omega) (by decide) (rfl) dX1_give_67 ?_
    refine lv_iload_n hx hb dX1_give_68 rfl (lv_at hl 0 rfl) ?_
    refine lv_iushr hx hb dX1_give_69 rfl ?_
    refine lv_bipush (v := nI 15) hx hb dX1_give_70 (by decide) ?_
    refine lv_iand hx hb dX1_give_72 ?_
    refine cSi (As := [.int ((((o (a / 8)).toUInt32 >>> ((nI (4 * (a % 8))).toUInt32 &&& Int32.toUInt32 31)).toInt32) &&& (nI 15))]) (rest := [.int (apartI (nib (e (a / 8)) a))]) ⟨hx, hb, hml, hown, hts⟩ (m_apart l _) (va_cwS 1 hts (lw_S q191 q192 q13 q193) rfl rfl rfl (by decide +kernel) ⟨Nat.le_of_ble_eq_true rfl, Nat.le_of_ble_eq_true rfl⟩) hP hS hA rfl hl.1 rfl (Nat.le_of_ble_eq_true rfl) dX1_give_73 ⟨Nat.le_of_ble_eq_true rfl, Nat.le_of_ble_eq_true rfl⟩ (fun H locs hP hS => ?_)
    refine lv_iconst (v := nI 1) hx hb dX1_give_76 (by decide) ?_
    refine lv_ishl hx hb dX1_give_77 ?_
    refine lv_ior hx hb dX1_give_78 ?_
    have hP : va_P D vwCl (wSp ca h e o me mo se so (nI r) (nI ((if a = r then 0 else a) + 1))) H := by rw [if_neg hc]; exact hP
    have hD : va_D A (wSp ca h e o me mo se so (nI r) (nI ((if a = r then 0 else a) + 1))) := by rw [if_neg hc]; exact hD
    have hq : gvI e o a = obL (if a = r then mixL w else w) (if a = r then 0 else a) ∧ Rel (if a = r then mixL w else w) e o := by rw [if_neg hc, if_neg hc]; exact ⟨gv_eq hrel a (by omega), hrel⟩
    exact iend hx hb hr hlk (e, o, me, mo, se, so) hq hP hK hD hS (Nat.le_refl _) (Nat.le_refl _) dX1_give_79
  ·
    refine lv_aload_n hx hb dX1_give_11 rfl (lv_at hl 0 rfl) ?_
    refine cVv (wr := []) (As := []) (rest := []) ⟨hx, hb, hml, hown, hts⟩ (m_mix l D ca h e o me mo se so (nI r) (nI a) w hrel) (cwV 0 hts (lw_V q158 q160 qs2 q13 q161) rfl rfl rfl (by decide +kernel) ⟨Nat.le_of_ble_eq_true rfl, Nat.le_of_ble_eq_true rfl⟩) hK hP hD hS hA [0, 1, 2, 3, 4, 5, 6, 7, 8, 9, 10, 11] [] rfl rfl (by decide) (by decide) (by decide) 0 1 rfl rfl rfl (fun _ _ _ _ _ _ => trivial) (fun _ _ _ => trivial) rfl hl.1 rfl (Nat.le_of_ble_eq_true rfl) dX1_give_12 ⟨Nat.le_of_ble_eq_true rfl, Nat.le_of_ble_eq_true rfl⟩ (fun ⟨e2, o2, me, mo, se, so⟩ H locs hpo hP hD hS => ?_)
    have hP : va_P D vwCl (wSp ca h e2 o2 me mo se so (nI r) (nI a)) H := hP
    have hD : va_D A (wSp ca h e2 o2 me mo se so (nI r) (nI a)) := hD
    have hpo : Rel (mixL w) e2 o2 := hpo
    refine lv_aload_n hx hb dX1_give_15 rfl (lv_at hl 0 rfl) ?_
    refine lv_iconst (v := nI 0) hx hb dX1_give_16 (by decide) ?_
    refine va_put (D := D) (ci := 1) (v := .int (nI 0)) (ty := .int) (C := RX1) (T := TX1) (N := 9) hx hb hts in_X1 tyX1 tyX1_ok nmX1 hown hK hP hD hS 0 rfl rfl 8 (by decide) (hts _ q64) (fun _ h9 => h9) rfl (by decide +kernel) rfl rfl (Nat.le_of_ble_eq_true rfl) dX1_give_17 (fun H locs hP hD hS => ?_)
    have hP : va_P D vwCl (wSp ca h e2 o2 me mo se so (nI r) (nI 0)) H := hP
    have hD : va_D A (wSp ca h e2 o2 me mo se so (nI r) (nI 0)) := hD
    refine lv_aload_n hx hb dX1_give_20 rfl (lv_at hl 0 rfl) ?_
    refine va_get (D := D) (ci := 1) (v := .int (nI 0)) (C := RX1) (T := TX1) (N := 9) hx hb hts in_X1 hown hK hP 0 rfl rfl 8 (by decide) (hts _ q64) (fun _ h9 => h9) rfl dX1_give_21 ?_
    refine lv_bipush (v := nI 8) hx hb dX1_give_24 (by decide) ?_
    refine n_div hx hb (by omega) (by omega) (by omega) dX1_give_26 ?_
    refine lv_istore_n (lv' := [(1, .int (nI (0 / 8))), (0, .ref (h 0))]) hx hb dX1_give_27 rfl hl (by decide) rfl (fun ls hl => ?_)
    refine lv_iconst (v := nI 4) hx hb dX1_give_28 (by decide) ?_
    refine lv_aload_n hx hb dX1_give_29 rfl (lv_at hl 1 rfl) ?_
    refine va_get (D := D) (ci := 1) (v := .int (nI 0)) (C := RX1) (T := TX1) (N := 9) hx hb hts in_X1 hown hK hP 0 rfl rfl 8 (by decide) (hts _ q64) (fun _ h9 => h9) rfl dX1_give_30 ?_
    refine lv_bipush (v := nI 8) hx hb dX1_give_33 (by decide) ?_
    refine n_rem hx hb (by omega) (by omega) (by omega) dX1_give_35 ?_
    refine n_mul hx hb dX1_give_36 ?_
    refine lv_istore_n (lv' := [(2, .int (nI (4 * (0 % 8)))), (1, .int (nI (0 / 8))), (0, .ref (h 0))]) hx hb dX1_give_37 rfl hl (by decide) rfl (fun ls hl => ?_)
    refine lv_aload_n hx hb dX1_give_38 rfl (lv_at hl 2 rfl) ?_
    refine lv_dup hx hb dX1_give_39 rfl ?_
    refine va_get (D := D) (ci := 1) (v := .int (nI 0)) (C := RX1) (T := TX1) (N := 9) hx hb hts in_X1 hown hK hP 0 rfl rfl 8 (by decide) (hts _ q64) (fun _ h9 => h9) rfl dX1_give_40 ?_
    refine lv_iconst (v := nI 1) hx hb dX1_give_43 (by decide) ?_
    refine n_add hx hb dX1_give_44 ?_
    refine va_put (D := D) (ci := 1) (v := .int (nI (0 + 1))) (ty := .int) (C := RX1) (T := TX1) (N := 9) hx hb hts in_X1 tyX1 tyX1_ok nmX1 hown hK hP hD hS 0 rfl rfl 8 (by decide) (hts _ q64) (fun _ h9 => h9) rfl (by decide +kernel) rfl rfl (Nat.le_of_ble_eq_true rfl) dX1_give_45 (fun H locs hP hD hS => ?_)
    have hP : va_P D vwCl (wSp ca h e2 o2 me mo se so (nI r) (nI (0 + 1))) H := hP
    have hD : va_D A (wSp ca h e2 o2 me mo se so (nI r) (nI (0 + 1))) := hD
    refine lv_aload_n hx hb dX1_give_48 rfl (lv_at hl 2 rfl) ?_
    refine va_get (D := D) (ci := 1) (v := .ref (h 1)) (C := RX1) (T := TX1) (N := 9) hx hb hts in_X1 hown hK hP 0 rfl rfl 1 (by decide) (hts _ q57) (fun _ h9 => h9) rfl dX1_give_49 ?_
    refine lv_iload_n hx hb dX1_give_52 rfl (lv_at hl 1 rfl) ?_
    refine n_iald (v := e2 (0 / 8)) hx hb hK hP 1 0 rfl rfl (by omega) (by decide) (rfl) dX1_give_53 ?_
    refine lv_iload_n hx hb dX1_give_54 rfl (lv_at hl 0 rfl) ?_
    refine lv_iushr hx hb dX1_give_55 rfl ?_
    refine lv_bipush (v := nI 15) hx hb dX1_give_56 (by decide) ?_
    refine lv_iand hx hb dX1_give_58 ?_
    refine cSi (As := [.int ((((e2 (0 / 8)).toUInt32 >>> ((nI (4 * (0 % 8))).toUInt32 &&& Int32.toUInt32 31)).toInt32) &&& (nI 15))]) (rest := []) ⟨hx, hb, hml, hown, hts⟩ (m_apart l _) (va_cwS 1 hts (lw_S q191 q192 q13 q193) rfl rfl rfl (by decide +kernel) ⟨Nat.le_of_ble_eq_true rfl, Nat.le_of_ble_eq_true rfl⟩) hP hS hA rfl hl.1 rfl (Nat.le_of_ble_eq_true rfl) dX1_give_59 ⟨Nat.le_of_ble_eq_true rfl, Nat.le_of_ble_eq_true rfl⟩ (fun H locs hP hS => ?_)
    refine lv_aload_n hx hb dX1_give_62 rfl (lv_at hl 2 rfl) ?_
    refine va_get (D := D) (ci := 1) (v := .ref (h 2)) (C := RX1) (T := TX1) (N := 9) hx hb hts in_X1 hown hK hP 0 rfl rfl 2 (by decide) (hts _ q58) (fun _ h9 => h9) rfl dX1_give_63 ?_
    refine lv_iload_n hx hb dX1_give_66 rfl (lv_at hl 1 rfl) ?_
    refine n_iald (v := o2 (0 / 8)) hx hb hK hP 2 0 rfl rfl (by omega) (by decide) (rfl) dX1_give_67 ?_
    refine lv_iload_n hx hb dX1_give_68 rfl (lv_at hl 0 rfl) ?_
    refine lv_iushr hx hb dX1_give_69 rfl ?_
    refine lv_bipush (v := nI 15) hx hb dX1_give_70 (by decide) ?_
    refine lv_iand hx hb dX1_give_72 ?_
    refine cSi (As := [.int ((((o2 (0 / 8)).toUInt32 >>> ((nI (4 * (0 % 8))).toUInt32 &&& Int32.toUInt32 31)).toInt32) &&& (nI 15))]) (rest := [.int (apartI (nib (e2 (0 / 8)) 0))]) ⟨hx, hb, hml, hown, hts⟩ (m_apart l _) (va_cwS 1 hts (lw_S q191 q192 q13 q193) rfl rfl rfl (by decide +kernel) ⟨Nat.le_of_ble_eq_true rfl, Nat.le_of_ble_eq_true rfl⟩) hP hS hA rfl hl.1 rfl (Nat.le_of_ble_eq_true rfl) dX1_give_73 ⟨Nat.le_of_ble_eq_true rfl, Nat.le_of_ble_eq_true rfl⟩ (fun H locs hP hS => ?_)
    refine lv_iconst (v := nI 1) hx hb dX1_give_76 (by decide) ?_
    refine lv_ishl hx hb dX1_give_77 ?_
    refine lv_ior hx hb dX1_give_78 ?_
    have hP : va_P D vwCl (wSp ca h e2 o2 me mo se so (nI r) (nI ((if a = r then 0 else a) + 1))) H := by rw [if_pos hc]; exact hP
    have hD : va_D A (wSp ca h e2 o2 me mo se so (nI r) (nI ((if a = r then 0 else a) + 1))) := by rw [if_pos hc]; exact hD
    have hq : gvI e2 o2 0 = obL (if a = r then mixL w else w) (if a = r then 0 else a) ∧ Rel (if a = r then mixL w else w) e2 o2 := by rw [if_pos hc, if_pos hc]; exact ⟨gv_eq hpo 0 (by omega), hpo⟩
    exact iend hx hb hr hlk (e2, o2, me, mo, se, so) hq hP hK hD hS (Nat.le_refl _) (Nat.le_refl _) dX1_give_79
section SPW4
variable {p : Program} {l : Launch} {en : Env} {s : State} {m : MethodId} {args : Array Value} {below : List Frame} {meth : Method} {c : Code} {Q : State → Prop} {D : va_G} {ca : Nat → ClassId} {A : Nat → Prop} {h : Nat → Nat}
set_option maxHeartbeats 1000000 in
set_option maxRecDepth 100000 in
theorem bgn_lp (e o me mo se so : Nat → Int32) (rt aa : Int32) (F : Fix p m c cX1_begin 3 s args RX1 A D ca)
    (K : ∀ (H : Heap) (locs : List Loc) (ls : Array Slot), Sta D A s (wSp ca h (mid id 25 (fun _ => 0) e) (mid id 25 (fun _ => 0) o) me mo se so rt aa) H locs → lv_has ls 3 [(2, .int (nI 25)), (0, .ref (h 0)), (1, .int rt)] → W p l en rmz s m args below meth c H locs 0 0 Q (F0 m 38 ls [])) :
    ∀ (n k : Nat), k ≤ 25 → 25 + 1 ≤ k + n → ∀ (H : Heap) (locs : List Loc) (ls : Array Slot), Sta D A s (wSp ca h (mid id k (fun _ => 0) e) (mid id k (fun _ => 0) o) me mo se so rt aa) H locs → lv_has ls 3 [(2, .int (nI k)), (0, .ref (h 0)), (1, .int rt)] → W p l en rmz s m args below meth c H locs 0 0 Q (F0 m 12 ls []) := by
  obtain ⟨hx, hb, hml, hown, hts, hA, hK⟩ := F
  intro n
  induction n with
  | zero => intro k h1 h2; omega
  | succ n ih =>
    intro k hi hn H locs ls hst hl
    obtain ⟨hP, hD, hS⟩ := hst
    refine lv_iload_n hx hb dX1_begin_12 rfl (lv_at hl 0 rfl) ?_
    refine lv_bipush (v := nI 25) hx hb dX1_begin_13 (by decide) ?_
    refine n_ge (tgt := 38) hx hb (by omega) (by omega) dX1_begin_15 (by decide) (fun hc => ?_) (fun hc => ?_)
    ·
      have e5 : k = 25 := by omega
      subst e5
      exact K H locs ls ⟨hP, hD, hS⟩ hl
    ·
      refine lv_aload_n hx hb dX1_begin_18 rfl (lv_at hl 1 rfl) ?_
      refine va_get (D := D) (ci := 1) (v := .ref (h 1)) (C := RX1) (T := TX1) (N := 9) hx hb hts in_X1 hown hK hP 0 rfl rfl 1 (by decide) (hts _ q57) (fun _ h9 => h9) rfl dX1_begin_19 ?_
      refine lv_iload_n hx hb dX1_begin_22 rfl (lv_at hl 0 rfl) ?_
      refine lv_iconst (v := nI 0) hx hb dX1_begin_23 (by decide) ?_
      refine n_iast (ws' := wSp ca h (mid id (k + 1) (fun _ => 0) e) (mid id k (fun _ => 0) o) me mo se so rt aa) hx hb hK hP hD hS 1 0 (mid id (k + 1) (fun _ => 0) e) rfl rfl (by omega) (by decide) (mid_up (fun _ _ => Iff.rfl) rfl) rfl dX1_begin_24 (fun H locs hP hD hS => ?_)
      refine lv_aload_n hx hb dX1_begin_25 rfl (lv_at hl 1 rfl) ?_
      refine va_get (D := D) (ci := 1) (v := .ref (h 2)) (C := RX1) (T := TX1) (N := 9) hx hb hts in_X1 hown hK hP 0 rfl rfl 2 (by decide) (hts _ q58) (fun _ h9 => h9) rfl dX1_begin_26 ?_
      refine lv_iload_n hx hb dX1_begin_29 rfl (lv_at hl 0 rfl) ?_
      refine lv_iconst (v := nI 0) hx hb dX1_begin_30 (by decide) ?_
      refine n_iast (ws' := wSp ca h (mid id (k + 1) (fun _ => 0) e) (mid id (k + 1) (fun _ => 0) o) me mo se so rt aa) hx hb hK hP hD hS 2 0 (mid id (k + 1) (fun _ => 0) o) rfl rfl (by omega) (by decide) (mid_up (fun _ _ => Iff.rfl) rfl) rfl dX1_begin_31 (fun H locs hP hD hS => ?_)
      refine lv_iinc (v := nI (k + 1)) (lv' := [(2, .int (nI (k + 1))), (0, .ref (h 0)), (1, .int rt)]) hx hb dX1_begin_32 hl (k := 0) rfl (nI_add _ 1) (by decide) rfl (fun ls hl => ?_)
      refine lv_goto (tgt := 12) hx hb dX1_begin_35 (by decide) ?_
      exact ih (k + 1) (by omega) (by omega) H locs ls ⟨hP, hD, hS⟩ hl
end SPW4
set_option maxHeartbeats 1000000 in
set_option maxRecDepth 100000 in
theorem m_sbegin (l : Launch) (D : va_G) (ca : Nat → ClassId) (h : Nat → Nat) (e o me mo se so : Nat → Int32) (rt0 rt aa : Int32) : MV l yX1_begin cX1_begin 3 rmz D ca noX [.ref (h 0), .int rt] (wSp ca h e o me mo se so rt0 aa) (S := Unit) (fun _ => True) (fun _ => wSp ca h (fun _ => 0) (fun _ => 0) me mo se so rt (nI 0)) 0 0 := by
  refine MV.of (by decide) (Nat.le_of_ble_eq_true rfl) ?_
  intro p en s m below meth c A hx hb hr hml hlk hown hts hnm hA hP hK hD hS hX ls hl
  have hown : s.vm.findClass RX1 = some m.cls := hown
  have hl : lv_has ls 3 [(0, .ref (h 0)), (1, .int rt)] := hl
  have F1 : Fix p m c cX1_begin 3 s _ RX1 A D ca := ⟨hx, hb, hml, hown, hts, hA, hK⟩
  refine lv_aload_n hx hb dX1_begin_0 rfl (lv_at hl 0 rfl) ?_
  refine lv_iload_n hx hb dX1_begin_1 rfl (lv_at hl 1 rfl) ?_
  refine va_put (D := D) (ci := 1) (v := .int rt) (ty := .int) (C := RX1) (T := TX1) (N := 9) hx hb hts in_X1 tyX1 tyX1_ok nmX1 hown hK hP hD hS 0 rfl rfl 7 (by decide) (hts _ q63) (fun _ h9 => h9) rfl (by decide +kernel) rfl rfl (Nat.le_of_ble_eq_true rfl) dX1_begin_2 (fun H locs hP hD hS => ?_)
  have hP : va_P D vwCl (wSp ca h e o me mo se so rt aa) H := hP
  have hD : va_D A (wSp ca h e o me mo se so rt aa) := hD
  refine lv_aload_n hx hb dX1_begin_5 rfl (lv_at hl 0 rfl) ?_
  refine lv_iconst (v := nI 0) hx hb dX1_begin_6 (by decide) ?_
  refine va_put (D := D) (ci := 1) (v := .int (nI 0)) (ty := .int) (C := RX1) (T := TX1) (N := 9) hx hb hts in_X1 tyX1 tyX1_ok nmX1 hown hK hP hD hS 0 rfl rfl 8 (by decide) (hts _ q64) (fun _ h9 => h9) rfl (by decide +kernel) rfl rfl (Nat.le_of_ble_eq_true rfl) dX1_begin_7 (fun H locs hP hD hS => ?_)
  have hP : va_P D vwCl (wSp ca h e o me mo se so rt (nI 0)) H := hP
  have hD : va_D A (wSp ca h e o me mo se so rt (nI 0)) := hD
  refine lv_iconst (v := nI 0) hx hb dX1_begin_10 (by decide) ?_
  refine lv_istore_n (lv' := [(2, .int (nI 0)), (0, .ref (h 0)), (1, .int rt)]) hx hb dX1_begin_11 rfl hl (by decide) rfl (fun ls hl => ?_)
  have hP : va_P D vwCl (wSp ca h (mid id 0 (fun _ => 0) e) (mid id 0 (fun _ => 0) o) me mo se so rt (nI 0)) H := by rw [mid_0, mid_0]; exact hP
  have hD : va_D A (wSp ca h (mid id 0 (fun _ => 0) e) (mid id 0 (fun _ => 0) o) me mo se so rt (nI 0)) := by rw [mid_0, mid_0]; exact hD
  refine bgn_lp e o me mo se so rt (nI 0) F1 (fun H locs ls hst hl => ?_) 26 0 (by omega) (by omega) _ _ ls ⟨hP, hD, hS⟩ hl
  obtain ⟨hP, hD, hS⟩ := hst
  obtain ⟨hP, hD⟩ := P_fn (ws' := wSp ca h (fun _ => 0) (mid id 25 (fun _ => 0) o) me mo se so rt (nI 0)) hP hD 1 (fun _ => 0) rfl (mid_end (fun q hq => hq)) rfl
  obtain ⟨hP, hD⟩ := P_fn (ws' := wSp ca h (fun _ => 0) (fun _ => 0) me mo se so rt (nI 0)) hP hD 2 (fun _ => 0) rfl (mid_end (fun q hq => hq)) rfl
  exact vend hx hb hr hlk () trivial hP hK hD hS (Nat.le_refl _) (Nat.le_refl _) dX1_begin_38
end
section
/-! pure: the way of the turns; small rows -/
def pq : Nat → Nat × Nat
  | 0 => (1, 0)
  | k + 1 => ((pq k).2, (2 * (pq k).1 + 3 * (pq k).2) % 5)
-- OR: the round of the way at which a place is met (24: never)
def ORc (q : Nat) : Nat := ((List.range 24).find? (fun k => (pq k).1 + 5 * (pq k).2 == q)).getD 24
theorem pq_lt : ∀ k, k < 24 → (pq k).1 < 5 ∧ (pq k).2 < 5 := by decide +kernel
theorem pq_TT : ∀ k, k < 24 → TT ((pq k).1 + 5 * (pq k).2) = (k + 1) * (k + 2) / 2 % 64 := by decide +kernel
theorem OR_pq : ∀ q, q < 25 → ∀ k, k < 24 → (ORc q = k ↔ q = (pq k).1 + 5 * (pq k).2) := by decide +kernel
theorem OR_lt : ∀ q, q < 25 → ORc q < 24 ∨ q = 0 := by decide +kernel
theorem OR_0 : ORc 0 = 24 := by decide +kernel
theorem nx_xor (a b : Nat) : nI a ^^^ nI b = nI (a ^^^ b) := by
  apply Int32.toBitVec_inj.1
  show BitVec.ofNat 32 a ^^^ BitVec.ofNat 32 b = BitVec.ofNat 32 (a ^^^ b)
  apply BitVec.eq_of_getLsbD_eq
  intro i hi
  simp [hi]
theorem sh1 : ∀ k, k < 7 → nI 1 <<< (nI k &&& 31) = nI (2 ^ k) := by decide +kernel
theorem tp1 (k : Nat) : 1 ≤ 2 ^ k := Nat.one_le_two_pow
theorem upd_same {f : Nat → Int32} {k : Nat} {x : Int32} (h : f k = x) (q : Nat) : f q = upd f k x q := by
  show _ = if q = k then x else f q
  by_cases hq : q = k
  · rw [if_pos hq, hq, h]
  · rw [if_neg hq]
theorem mid_OR {z : Nat → Int32} (hz : z 0 = rTu 0) : ∀ q, q < 25 → mid ORc 24 rTu z q = rTu q := by
  intro q hq
  rcases OR_lt q hq with h | h
  · exact mid_new h
  · subst h
    rw [mid_old (by rw [OR_0]; exact Nat.le_refl _), hz]
theorem mid_ORL {w : Nat → Int64} : ∀ q, q < 25 → mid ORc 24 (rhL w) w q = rhL w q := by
  intro q hq
  rcases OR_lt q hq with h | h
  · exact mid_new h
  · subst h
    rw [mid_old (by rw [OR_0]; exact Nat.le_refl _)]
    rfl
section NEWA
variable {p : Program} {l : Launch} {e : Env} {R : Room} {s : State} {m : MethodId} {args : Array Value} {below : List Frame} {meth : Method} {c : Code} {H : Heap} {locs : List Loc} {cells slots : Nat} {Q : State → Prop}
variable {cc : ByteArray} {pc : Nat} {ls : Array Slot} {rest : List Value} {D : va_G} {cl : List vw_C} {A : Nat → Prop} {a : Nat} {tys : List (ClassId × FieldType)} {ws : va_W} {H0 : Heap}
theorem n_newa (hx : p.tables.exec = Jvm.exec) (hb : c.code = cc) {atype : ArrayType} {ty : FieldType} (harr : (Cond.arrayClass (newarray.typeOf atype)).before args s = true) (hty : newarray.typeOf atype = ty) (hra : ∀ c1, va_RA s c1 ty → s.vm.findClass ("[" ++ ty.toString) = some c1) (hK : va_K D cl tys s) (hP : va_P D cl ws H) (hD : va_D A ws) (hS : va_S A H0 H locs) (hA : ∀ q, H0.size ≤ q → A q)
    (t0 : Nat) {cA : ClassId} (ht : tys[t0]? = some (cA, ty)) {N : Nat} {a0 : vp_A} (ha : ∀ cA : ClassId, vp_cell cA a0 = arrV cA N (fun _ => defaultValue ty)) (hN : N < 2 ^ 31) (hbytes : N * componentBytes ty ≤ 536870912) (hcells : cells + 1 ≤ R.cells) (hslots : slots + N ≤ R.slots) (hdg : decode cc pc = .ok (.newarray atype, 2))
    (kk : ∀ (q : Nat) (H1 : Heap), va_P D cl (ws ++ [(q, .inl (cA, a0))]) H1 → va_D A (ws ++ [(q, .inl (cA, a0))]) → va_S A H0 H1 locs → W p l e R s m args below meth c H1 locs (cells + 1) (slots + N) Q (F0 m (pc + 2) ls (.ref q :: rest))) : W p l e R s m args below meth c H locs cells slots Q (F0 m pc ls (.int (nI N) :: rest)) := by
  refine va_newa hx hb harr hty hK hP hD hS hA ha (nI_pos hN) (nI_clamp hN) hbytes hcells hslots hdg (fun q cA' H1 hK1 hP1 hD1 hS1 => ?_)
  have h1 := hra _ (hK.2 t0 _ ht).2
  have h2 := hra _ (hK1.2 tys.length (cA', ty) (by simp)).2
  have e1 : cA' = cA := Option.some.inj (h2.symm.trans h1)
  subst e1
  exact kk q H1 hP1 hD1 hS1
end NEWA
end
section
/-! Rules() -/
abbrev rmRu : Room := { frames := 1, cells := 4, slots := 98, locals := 12 }
section RU
variable {p : Program} {l : Launch} {en : Env} {s : State} {m : MethodId} {args : Array Value} {below : List Frame} {meth : Method} {c : Code} {Q : State → Prop} {D : va_G} {ca : Nat → ClassId} {A : Nat → Prop} {h0 q1 q2 q3 q4 : Nat}
set_option maxHeartbeats 1000000 in
set_option maxRecDepth 100000 in
theorem ru_1  (F : Fix p m c cX2_init 6 s args RX2 A D ca)
    (K : ∀ (H : Heap) (locs : List Loc) (ls : Array Slot), Sta D A s ([(h0, .inr (2, [.ref q1, .ref q2, .ref q3, .ref q4])), (q1, .inl (ca 0, 25, .inl (mid ORc 24 rTu (fun _ => 0)))), (q2, .inl (ca 0, 25, .inl ((fun _ => 0)))), (q3, .inl (ca 0, 24, .inl ((fun _ => 0)))), (q4, .inl (ca 0, 24, .inl ((fun _ => 0))))]) H locs → lv_has ls 6 [(3, .int (nI 24)), (2, .int (nI ((pq 24).2))), (1, .int (nI ((pq 24).1))), (0, .ref h0)] → W p l en rmRu s m args below meth c H locs 4 98 Q (F0 m 92 ls [])) :
    ∀ (n k : Nat), k ≤ 24 → 24 + 1 ≤ k + n → ∀ (H : Heap) (locs : List Loc) (ls : Array Slot), Sta D A s ([(h0, .inr (2, [.ref q1, .ref q2, .ref q3, .ref q4])), (q1, .inl (ca 0, 25, .inl (mid ORc k rTu (fun _ => 0)))), (q2, .inl (ca 0, 25, .inl ((fun _ => 0)))), (q3, .inl (ca 0, 24, .inl ((fun _ => 0)))), (q4, .inl (ca 0, 24, .inl ((fun _ => 0))))]) H locs → lv_has ls 6 [(3, .int (nI k)), (2, .int (nI ((pq k).2))), (1, .int (nI ((pq k).1))), (0, .ref h0)] → W p l en rmRu s m args below meth c H locs 4 98 Q (F0 m 42 ls []) := by
  obtain ⟨hx, hb, hml, hown, hts, hA, hK⟩ := F
  intro n
  induction n with
  | zero => intro k h1 h2; omega
  | succ n ih =>
    intro k hi hn H locs ls hst hl
    obtain ⟨hP, hD, hS⟩ := hst
    refine lv_iload_n hx hb dX2_init_42 rfl (lv_at hl 0 rfl) ?_
    refine lv_bipush (v := nI 24) hx hb dX2_init_43 (by decide) ?_
    refine n_ge (tgt := 92) hx hb (by omega) (by omega) dX2_init_45 (by decide) (fun hc => ?_) (fun hc => ?_)
    ·
      have e5 : k = 24 := by omega
      subst e5
      exact K H locs ls ⟨hP, hD, hS⟩ hl
    ·
      obtain ⟨hq1, hq2⟩ := pq_lt k (by omega)
      have hmul : (k + 1) * (k + 2) < 2 ^ 31 := Nat.lt_of_le_of_lt (Nat.mul_le_mul (show k + 1 ≤ 24 by omega) (show k + 2 ≤ 25 by omega)) (by decide)
      refine lv_aload_n hx hb dX2_init_48 rfl (lv_at hl 3 rfl) ?_
      refine va_get (D := D) (ci := 2) (v := .ref q1) (C := RX2) (T := TX2) (N := 4) hx hb hts in_X2 hown hK hP 0 rfl rfl 0 (by decide) (hts _ q37) (fun _ h9 => h9) rfl dX2_init_49 ?_
      refine lv_iload_n hx hb dX2_init_52 rfl (lv_at hl 2 rfl) ?_
      refine lv_iconst (v := nI 5) hx hb dX2_init_53 (by decide) ?_
      refine lv_iload_n hx hb dX2_init_54 rfl (lv_at hl 1 rfl) ?_
      refine n_mul hx hb dX2_init_55 ?_
      refine n_add hx hb dX2_init_56 ?_
      refine lv_iload_n hx hb dX2_init_57 rfl (lv_at hl 0 rfl) ?_
      refine lv_iconst (v := nI 1) hx hb dX2_init_58 (by decide) ?_
      refine n_add hx hb dX2_init_59 ?_
      refine lv_iload_n hx hb dX2_init_60 rfl (lv_at hl 0 rfl) ?_
      refine lv_iconst (v := nI 2) hx hb dX2_init_61 (by decide) ?_
      refine n_add hx hb dX2_init_62 ?_
      refine n_mul hx hb dX2_init_63 ?_
      refine lv_iconst (v := nI 2) hx hb dX2_init_64 (by decide) ?_
      refine n_div hx hb (by omega) (by omega) (by omega) dX2_init_65 ?_
      refine lv_bipush (v := nI 64) hx hb dX2_init_66 (by decide) ?_
      refine n_rem hx hb (by omega) (by omega) (by omega) dX2_init_68 ?_
      refine n_iast (ws' := [(h0, .inr (2, [.ref q1, .ref q2, .ref q3, .ref q4])), (q1, .inl (ca 0, 25, .inl (mid ORc (k + 1) rTu (fun _ => 0)))), (q2, .inl (ca 0, 25, .inl ((fun _ => 0)))), (q3, .inl (ca 0, 24, .inl ((fun _ => 0)))), (q4, .inl (ca 0, 24, .inl ((fun _ => 0))))]) hx hb hK hP hD hS 1 0 (mid ORc (k + 1) rTu (fun _ => 0)) rfl rfl (by omega) (by decide) (mid_up (fun q hq => OR_pq q hq k (by omega)) (congrArg nI (pq_TT k (by omega)).symm)) rfl dX2_init_69 (fun H locs hP hD hS => ?_)
      refine lv_iconst (v := nI 2) hx hb dX2_init_70 (by decide) ?_
      refine lv_iload_n hx hb dX2_init_71 rfl (lv_at hl 2 rfl) ?_
      refine n_mul hx hb dX2_init_72 ?_
      refine lv_iconst (v := nI 3) hx hb dX2_init_73 (by decide) ?_
      refine lv_iload_n hx hb dX2_init_74 rfl (lv_at hl 1 rfl) ?_
      refine n_mul hx hb dX2_init_75 ?_
      refine n_add hx hb dX2_init_76 ?_
      refine lv_iconst (v := nI 5) hx hb dX2_init_77 (by decide) ?_
      refine n_rem hx hb (by omega) (by omega) (by omega) dX2_init_78 ?_
      refine lv_istore (lv' := [(4, .int (nI (((2 * ((pq k).1)) + (3 * ((pq k).2))) % 5))), (3, .int (nI k)), (2, .int (nI ((pq k).2))), (1, .int (nI ((pq k).1))), (0, .ref h0)]) hx hb dX2_init_79 hl (by decide) rfl (fun ls hl => ?_)
      refine lv_iload_n hx hb dX2_init_81 rfl (lv_at hl 2 rfl) ?_
      refine lv_istore_n (lv' := [(1, .int (nI ((pq k).2))), (4, .int (nI (((2 * ((pq k).1)) + (3 * ((pq k).2))) % 5))), (3, .int (nI k)), (2, .int (nI ((pq k).2))), (0, .ref h0)]) hx hb dX2_init_82 rfl hl (by decide) rfl (fun ls hl => ?_)
      refine lv_iload hx hb dX2_init_83 (lv_at hl 1 rfl) ?_
      refine lv_istore_n (lv' := [(2, .int (nI (((2 * ((pq k).1)) + (3 * ((pq k).2))) % 5))), (1, .int (nI ((pq k).2))), (4, .int (nI (((2 * ((pq k).1)) + (3 * ((pq k).2))) % 5))), (3, .int (nI k)), (0, .ref h0)]) hx hb dX2_init_85 rfl hl (by decide) rfl (fun ls hl => ?_)
      refine lv_iinc (v := nI (k + 1)) (lv' := [(3, .int (nI (k + 1))), (2, .int (nI (((2 * ((pq k).1)) + (3 * ((pq k).2))) % 5))), (1, .int (nI ((pq k).2))), (4, .int (nI (((2 * ((pq k).1)) + (3 * ((pq k).2))) % 5))), (0, .ref h0)]) hx hb dX2_init_86 hl (k := 3) rfl (nI_add _ 1) (by decide) rfl (fun ls hl => ?_)
      refine lv_goto (tgt := 42) hx hb dX2_init_89 (by decide) ?_
      exact ih (k + 1) (by omega) (by omega) H locs ls ⟨hP, hD, hS⟩ (lv_sub hl [0, 1, 2, 4] rfl)
set_option maxHeartbeats 1000000 in
set_option maxRecDepth 100000 in
theorem ru_2  (F : Fix p m c cX2_init 6 s args RX2 A D ca)
    (K : ∀ (H : Heap) (locs : List Loc) (ls : Array Slot), Sta D A s ([(h0, .inr (2, [.ref q1, .ref q2, .ref q3, .ref q4])), (q1, .inl (ca 0, 25, .inl rTu)), (q2, .inl (ca 0, 25, .inl (mid id 25 rTo (fun _ => 0)))), (q3, .inl (ca 0, 24, .inl ((fun _ => 0)))), (q4, .inl (ca 0, 24, .inl ((fun _ => 0))))]) H locs → lv_has ls 6 [(3, .int (nI 25)), (0, .ref h0)] → W p l en rmRu s m args below meth c H locs 4 98 Q (F0 m 131 ls [])) :
    ∀ (n k : Nat), k ≤ 25 → 25 + 1 ≤ k + n → ∀ (H : Heap) (locs : List Loc) (ls : Array Slot), Sta D A s ([(h0, .inr (2, [.ref q1, .ref q2, .ref q3, .ref q4])), (q1, .inl (ca 0, 25, .inl rTu)), (q2, .inl (ca 0, 25, .inl (mid id k rTo (fun _ => 0)))), (q3, .inl (ca 0, 24, .inl ((fun _ => 0)))), (q4, .inl (ca 0, 24, .inl ((fun _ => 0))))]) H locs → lv_has ls 6 [(3, .int (nI k)), (0, .ref h0)] → W p l en rmRu s m args below meth c H locs 4 98 Q (F0 m 94 ls []) := by
  obtain ⟨hx, hb, hml, hown, hts, hA, hK⟩ := F
  intro n
  induction n with
  | zero => intro k h1 h2; omega
  | succ n ih =>
    intro k hi hn H locs ls hst hl
    obtain ⟨hP, hD, hS⟩ := hst
    refine lv_iload_n hx hb dX2_init_94 rfl (lv_at hl 0 rfl) ?_
    refine lv_bipush (v := nI 25) hx hb dX2_init_95 (by decide) ?_
    refine n_ge (tgt := 131) hx hb (by omega) (by omega) dX2_init_97 (by decide) (fun hc => ?_) (fun hc => ?_)
    ·
      have e5 : k = 25 := by omega
      subst e5
      exact K H locs ls ⟨hP, hD, hS⟩ hl
    ·
      refine lv_aload_n hx hb dX2_init_100 rfl (lv_at hl 1 rfl) ?_
      refine va_get (D := D) (ci := 2) (v := .ref q2) (C := RX2) (T := TX2) (N := 4) hx hb hts in_X2 hown hK hP 0 rfl rfl 1 (by decide) (hts _ q39) (fun _ h9 => h9) rfl dX2_init_101 ?_
      refine lv_iload_n hx hb dX2_init_104 rfl (lv_at hl 0 rfl) ?_
      refine lv_iload_n hx hb dX2_init_105 rfl (lv_at hl 0 rfl) ?_
      refine lv_iconst (v := nI 5) hx hb dX2_init_106 (by decide) ?_
      refine n_div hx hb (by omega) (by omega) (by omega) dX2_init_107 ?_
      refine lv_iconst (v := nI 5) hx hb dX2_init_108 (by decide) ?_
      refine lv_iconst (v := nI 2) hx hb dX2_init_109 (by decide) ?_
      refine lv_iload_n hx hb dX2_init_110 rfl (lv_at hl 0 rfl) ?_
      refine lv_iconst (v := nI 5) hx hb dX2_init_111 (by decide) ?_
      refine n_rem hx hb (by omega) (by omega) (by omega) dX2_init_112 ?_
      refine n_mul hx hb dX2_init_113 ?_
      refine lv_iconst (v := nI 3) hx hb dX2_init_114 (by decide) ?_
      refine lv_iload_n hx hb dX2_init_115 rfl (lv_at hl 0 rfl) ?_
      refine lv_iconst (v := nI 5) hx hb dX2_init_116 (by decide) ?_
      refine n_div hx hb (by omega) (by omega) (by omega) dX2_init_117 ?_
      refine n_mul hx hb dX2_init_118 ?_
      refine n_add hx hb dX2_init_119 ?_
      refine lv_iconst (v := nI 5) hx hb dX2_init_120 (by decide) ?_
      refine n_rem hx hb (by omega) (by omega) (by omega) dX2_init_121 ?_
      refine n_mul hx hb dX2_init_122 ?_
      refine n_add hx hb dX2_init_123 ?_
      refine n_iast (ws' := [(h0, .inr (2, [.ref q1, .ref q2, .ref q3, .ref q4])), (q1, .inl (ca 0, 25, .inl rTu)), (q2, .inl (ca 0, 25, .inl (mid id (k + 1) rTo (fun _ => 0)))), (q3, .inl (ca 0, 24, .inl ((fun _ => 0)))), (q4, .inl (ca 0, 24, .inl ((fun _ => 0))))]) hx hb hK hP hD hS 2 0 (mid id (k + 1) rTo (fun _ => 0)) rfl rfl (by omega) (by decide) (mid_up (fun _ _ => Iff.rfl) rfl) rfl dX2_init_124 (fun H locs hP hD hS => ?_)
      refine lv_iinc (v := nI (k + 1)) (lv' := [(3, .int (nI (k + 1))), (0, .ref h0)]) hx hb dX2_init_125 hl (k := 0) rfl (nI_add _ 1) (by decide) rfl (fun ls hl => ?_)
      refine lv_goto (tgt := 94) hx hb dX2_init_128 (by decide) ?_
      exact ih (k + 1) (by omega) (by omega) H locs ls ⟨hP, hD, hS⟩ hl
set_option maxHeartbeats 1000000 in
set_option maxRecDepth 100000 in
theorem ru_3 (r : Nat) (hr24 : r < 24) (F : Fix p m c cX2_init 6 s args RX2 A D ca)
    (K : ∀ (H : Heap) (locs : List Loc) (ls : Array Slot), Sta D A s ([(h0, .inr (2, [.ref q1, .ref q2, .ref q3, .ref q4])), (q1, .inl (ca 0, 25, .inl rTu)), (q2, .inl (ca 0, 25, .inl rTo)), (q3, .inl (ca 0, 24, .inl (upd (mid id r rEv (fun _ => 0)) r (evP r 7)))), (q4, .inl (ca 0, 24, .inl (upd (mid id r rOd (fun _ => 0)) r (odP r 7))))]) H locs → lv_has ls 6 [(5, .int (nI 7)), (3, .int (nI (lf (7 * r + 7)))), (4, .int (nI r)), (0, .ref h0)] → W p l en rmRu s m args below meth c H locs 4 98 Q (F0 m 222 ls [])) :
    ∀ (n k : Nat), k ≤ 7 → 7 + 1 ≤ k + n → ∀ (H : Heap) (locs : List Loc) (ls : Array Slot), Sta D A s ([(h0, .inr (2, [.ref q1, .ref q2, .ref q3, .ref q4])), (q1, .inl (ca 0, 25, .inl rTu)), (q2, .inl (ca 0, 25, .inl rTo)), (q3, .inl (ca 0, 24, .inl (upd (mid id r rEv (fun _ => 0)) r (evP r k)))), (q4, .inl (ca 0, 24, .inl (upd (mid id r rOd (fun _ => 0)) r (odP r k))))]) H locs → lv_has ls 6 [(5, .int (nI k)), (3, .int (nI (lf (7 * r + k)))), (4, .int (nI r)), (0, .ref h0)] → W p l en rmRu s m args below meth c H locs 4 98 Q (F0 m 146 ls []) := by
  obtain ⟨hx, hb, hml, hown, hts, hA, hK⟩ := F
  intro n
  induction n with
  | zero => intro k h1 h2; omega
  | succ n ih =>
    intro k hi hn H locs ls hst hl
    obtain ⟨hP, hD, hS⟩ := hst
    refine lv_iload hx hb dX2_init_146 (lv_at hl 0 rfl) ?_
    refine lv_bipush (v := nI 7) hx hb dX2_init_148 (by decide) ?_
    refine n_ge (tgt := 222) hx hb (by omega) (by omega) dX2_init_150 (by decide) (fun hc => ?_) (fun hc => ?_)
    ·
      have e5 : k = 7 := by omega
      subst e5
      exact K H locs ls ⟨hP, hD, hS⟩ hl
    ·
      have hlf := lf_lt (7 * r + k)
      have tail : ∀ (H : Heap) (locs : List Loc) (ls : Array Slot), Sta D A s ([(h0, .inr (2, [.ref q1, .ref q2, .ref q3, .ref q4])), (q1, .inl (ca 0, 25, .inl rTu)), (q2, .inl (ca 0, 25, .inl rTo)), (q3, .inl (ca 0, 24, .inl (upd (mid id r rEv (fun _ => 0)) r (evP r (k + 1))))), (q4, .inl (ca 0, 24, .inl (upd (mid id r rOd (fun _ => 0)) r (odP r (k + 1)))))]) H locs → lv_has ls 6 [(5, .int (nI k)), (3, .int (nI (lf (7 * r + k)))), (4, .int (nI r)), (0, .ref h0)] → W p l en rmRu s m args below meth c H locs 4 98 Q (F0 m 199 ls []) := by
        intro H locs ls hst hl
        obtain ⟨hP, hD, hS⟩ := hst
        refine lv_iconst (v := nI 2) hx hb dX2_init_199 (by decide) ?_
        refine lv_iload_n hx hb dX2_init_200 rfl (lv_at hl 1 rfl) ?_
        refine n_mul hx hb dX2_init_201 ?_
        refine lv_istore_n (lv' := [(3, .int (nI (2 * (lf (7 * r + k))))), (5, .int (nI k)), (4, .int (nI r)), (0, .ref h0)]) hx hb dX2_init_202 rfl hl (by decide) rfl (fun ls hl => ?_)
        refine lv_iload_n hx hb dX2_init_203 rfl (lv_at hl 0 rfl) ?_
        refine lv_sipush (v := nI 255) hx hb dX2_init_204 (by decide) ?_
        refine n_le (tgt := 216) hx hb (by omega) (by omega) dX2_init_207 (by decide) (fun h255 => ?_) (fun h255 => ?_)
        ·
          refine lv_iinc (v := nI (k + 1)) (lv' := [(5, .int (nI (k + 1))), (3, .int (nI (2 * (lf (7 * r + k))))), (4, .int (nI r)), (0, .ref h0)]) hx hb dX2_init_216 hl (k := 1) rfl (nI_add _ 1) (by decide) rfl (fun ls hl => ?_)
          refine lv_goto (tgt := 146) hx hb dX2_init_219 (by decide) ?_
          have hlf1 : 2 * (lf (7 * r + k)) = lf (7 * r + (k + 1)) := (if_neg (by omega) : lfs (2 * lf (7 * r + k)) = 2 * lf (7 * r + k)).symm
          rw [hlf1] at hl
          exact ih (k + 1) (by omega) (by omega) H locs ls ⟨hP, hD, hS⟩ (lv_sub hl [0, 1, 2, 3] rfl)
        ·
          refine lv_iload_n hx hb dX2_init_210 rfl (lv_at hl 0 rfl) ?_
          refine lv_sipush (v := nI 369) hx hb dX2_init_211 (by decide) ?_
          refine lv_ixor hx hb dX2_init_214 ?_
          refine tpi (y := nI ((2 * lf (7 * r + k)) ^^^ 369)) (nx_xor _ _) ?_
          refine lv_istore_n (lv' := [(3, .int (nI ((2 * lf (7 * r + k)) ^^^ 369))), (5, .int (nI k)), (4, .int (nI r)), (0, .ref h0)]) hx hb dX2_init_215 rfl hl (by decide) rfl (fun ls hl => ?_)
          refine lv_iinc (v := nI (k + 1)) (lv' := [(5, .int (nI (k + 1))), (3, .int (nI ((2 * lf (7 * r + k)) ^^^ 369))), (4, .int (nI r)), (0, .ref h0)]) hx hb dX2_init_216 hl (k := 1) rfl (nI_add _ 1) (by decide) rfl (fun ls hl => ?_)
          refine lv_goto (tgt := 146) hx hb dX2_init_219 (by decide) ?_
          have hlf1 : (2 * lf (7 * r + k)) ^^^ 369 = lf (7 * r + (k + 1)) := (if_pos (by omega) : lfs (2 * lf (7 * r + k)) = (2 * lf (7 * r + k)) ^^^ 369).symm
          rw [hlf1] at hl
          exact ih (k + 1) (by omega) (by omega) H locs ls ⟨hP, hD, hS⟩ (lv_sub hl [0, 1, 2, 3] rfl)
      refine lv_iload_n hx hb dX2_init_153 rfl (lv_at hl 1 rfl) ?_
      refine lv_iconst (v := nI 1) hx hb dX2_init_154 (by decide) ?_
      refine lv_iand hx hb dX2_init_155 ?_
      refine tpi (y := nI (lf (7 * r + k) % 2)) (pk_andN (m := nI 1) (by omega) 1 (by decide)) ?_
      refine lv_iconst (v := nI 1) hx hb dX2_init_156 (by decide) ?_
      refine n_ne (tgt := 199) hx hb (by omega) (by omega) dX2_init_157 (by decide) (fun hs => ?_) (fun hs => ?_)
      ·
        have hev : evP r (k + 1) = evP r k := if_neg hs
        have hod : odP r (k + 1) = odP r k := if_neg hs
        have hP : va_P D vwCl ([(h0, .inr (2, [.ref q1, .ref q2, .ref q3, .ref q4])), (q1, .inl (ca 0, 25, .inl rTu)), (q2, .inl (ca 0, 25, .inl rTo)), (q3, .inl (ca 0, 24, .inl (upd (mid id r rEv (fun _ => 0)) r (evP r (k + 1))))), (q4, .inl (ca 0, 24, .inl (upd (mid id r rOd (fun _ => 0)) r (odP r (k + 1)))))]) H := by rw [hev, hod]; exact hP
        have hD : va_D A ([(h0, .inr (2, [.ref q1, .ref q2, .ref q3, .ref q4])), (q1, .inl (ca 0, 25, .inl rTu)), (q2, .inl (ca 0, 25, .inl rTo)), (q3, .inl (ca 0, 24, .inl (upd (mid id r rEv (fun _ => 0)) r (evP r (k + 1))))), (q4, .inl (ca 0, 24, .inl (upd (mid id r rOd (fun _ => 0)) r (odP r (k + 1)))))]) := by rw [hev, hod]; exact hD
        exact tail H locs ls ⟨hP, hD, hS⟩ hl
      ·
        refine lv_iload hx hb dX2_init_160 (lv_at hl 0 rfl) ?_
        refine n_ifne (tgt := 179) hx hb (by omega) dX2_init_162 (by decide) (fun hz => ?_) (fun hz => ?_)
        ·
          have hev : evP r (k + 1) = evP r k := (if_pos hs).trans (if_neg hz)
          have hod : odP r (k + 1) = odP r k ||| (1 <<< (nI (2 ^ (k - 1) - 1) &&& 31)) := (if_pos hs).trans (if_neg hz)
          refine lv_aload_n hx hb dX2_init_179 rfl (lv_at hl 3 rfl) ?_
          refine va_get (D := D) (ci := 2) (v := .ref q4) (C := RX2) (T := TX2) (N := 4) hx hb hts in_X2 hown hK hP 0 rfl rfl 3 (by decide) (hts _ q43) (fun _ h9 => h9) rfl dX2_init_180 ?_
          refine lv_iload hx hb dX2_init_183 (lv_at hl 2 rfl) ?_
          refine lv_dup2_11 hx hb dX2_init_185 rfl rfl ?_
          refine n_iald (v := odP r k) hx hb hK hP 4 0 rfl rfl (by omega) (by decide) (upd_self _ _ _) dX2_init_186 ?_
          refine lv_iconst (v := nI 1) hx hb dX2_init_187 (by decide) ?_
          refine lv_iconst (v := nI 1) hx hb dX2_init_188 (by decide) ?_
          refine lv_iload hx hb dX2_init_189 (lv_at hl 0 rfl) ?_
          refine lv_iconst (v := nI 1) hx hb dX2_init_191 (by decide) ?_
          refine n_sub hx hb (by omega) dX2_init_192 ?_
          refine lv_ishl hx hb dX2_init_193 ?_
          refine tpi (y := nI (2 ^ (k - 1))) (sh1 (k - 1) (by omega)) ?_
          refine lv_iconst (v := nI 1) hx hb dX2_init_194 (by decide) ?_
          refine n_sub hx hb (tp1 _) dX2_init_195 ?_
          refine lv_ishl hx hb dX2_init_196 ?_
          refine lv_ior hx hb dX2_init_197 ?_
          refine n_iast (ws' := [(h0, .inr (2, [.ref q1, .ref q2, .ref q3, .ref q4])), (q1, .inl (ca 0, 25, .inl rTu)), (q2, .inl (ca 0, 25, .inl rTo)), (q3, .inl (ca 0, 24, .inl (upd (mid id r rEv (fun _ => 0)) r (evP r k)))), (q4, .inl (ca 0, 24, .inl (upd (mid id r rOd (fun _ => 0)) r (odP r k ||| (1 <<< (nI (2 ^ (k - 1) - 1) &&& 31))))))]) hx hb hK hP hD hS 4 0 (upd (mid id r rOd (fun _ => 0)) r (odP r k ||| (1 <<< (nI (2 ^ (k - 1) - 1) &&& 31)))) rfl rfl (by omega) (by decide) (fun q _ => upd_upd _ _ _ _ q) rfl dX2_init_198 (fun H locs hP hD hS => ?_)
          have hP : va_P D vwCl ([(h0, .inr (2, [.ref q1, .ref q2, .ref q3, .ref q4])), (q1, .inl (ca 0, 25, .inl rTu)), (q2, .inl (ca 0, 25, .inl rTo)), (q3, .inl (ca 0, 24, .inl (upd (mid id r rEv (fun _ => 0)) r (evP r (k + 1))))), (q4, .inl (ca 0, 24, .inl (upd (mid id r rOd (fun _ => 0)) r (odP r (k + 1)))))]) H := by rw [hev, hod]; exact hP
          have hD : va_D A ([(h0, .inr (2, [.ref q1, .ref q2, .ref q3, .ref q4])), (q1, .inl (ca 0, 25, .inl rTu)), (q2, .inl (ca 0, 25, .inl rTo)), (q3, .inl (ca 0, 24, .inl (upd (mid id r rEv (fun _ => 0)) r (evP r (k + 1))))), (q4, .inl (ca 0, 24, .inl (upd (mid id r rOd (fun _ => 0)) r (odP r (k + 1)))))]) := by rw [hev, hod]; exact hD
          exact tail H locs ls ⟨hP, hD, hS⟩ hl
        ·
          have hev : evP r (k + 1) = evP r k ||| 1 := (if_pos hs).trans (if_pos hz)
          have hod : odP r (k + 1) = odP r k := (if_pos hs).trans (if_pos hz)
          refine lv_aload_n hx hb dX2_init_165 rfl (lv_at hl 3 rfl) ?_
          refine va_get (D := D) (ci := 2) (v := .ref q3) (C := RX2) (T := TX2) (N := 4) hx hb hts in_X2 hown hK hP 0 rfl rfl 2 (by decide) (hts _ q41) (fun _ h9 => h9) rfl dX2_init_166 ?_
          refine lv_iload hx hb dX2_init_169 (lv_at hl 2 rfl) ?_
          refine lv_dup2_11 hx hb dX2_init_171 rfl rfl ?_
          refine n_iald (v := evP r k) hx hb hK hP 3 0 rfl rfl (by omega) (by decide) (upd_self _ _ _) dX2_init_172 ?_
          refine lv_iconst (v := nI 1) hx hb dX2_init_173 (by decide) ?_
          refine lv_ior hx hb dX2_init_174 ?_
          refine n_iast (ws' := [(h0, .inr (2, [.ref q1, .ref q2, .ref q3, .ref q4])), (q1, .inl (ca 0, 25, .inl rTu)), (q2, .inl (ca 0, 25, .inl rTo)), (q3, .inl (ca 0, 24, .inl (upd (mid id r rEv (fun _ => 0)) r (evP r k ||| 1)))), (q4, .inl (ca 0, 24, .inl (upd (mid id r rOd (fun _ => 0)) r (odP r k))))]) hx hb hK hP hD hS 3 0 (upd (mid id r rEv (fun _ => 0)) r (evP r k ||| 1)) rfl rfl (by omega) (by decide) (fun q _ => upd_upd _ _ _ _ q) rfl dX2_init_175 (fun H locs hP hD hS => ?_)
          refine lv_goto (tgt := 199) hx hb dX2_init_176 (by decide) ?_
          have hP : va_P D vwCl ([(h0, .inr (2, [.ref q1, .ref q2, .ref q3, .ref q4])), (q1, .inl (ca 0, 25, .inl rTu)), (q2, .inl (ca 0, 25, .inl rTo)), (q3, .inl (ca 0, 24, .inl (upd (mid id r rEv (fun _ => 0)) r (evP r (k + 1))))), (q4, .inl (ca 0, 24, .inl (upd (mid id r rOd (fun _ => 0)) r (odP r (k + 1)))))]) H := by rw [hev, hod]; exact hP
          have hD : va_D A ([(h0, .inr (2, [.ref q1, .ref q2, .ref q3, .ref q4])), (q1, .inl (ca 0, 25, .inl rTu)), (q2, .inl (ca 0, 25, .inl rTo)), (q3, .inl (ca 0, 24, .inl (upd (mid id r rEv (fun _ => 0)) r (evP r (k + 1))))), (q4, .inl (ca 0, 24, .inl (upd (mid id r rOd (fun _ => 0)) r (odP r (k + 1)))))]) := by rw [hev, hod]; exact hD
          exact tail H locs ls ⟨hP, hD, hS⟩ hl
set_option maxHeartbeats 1000000 in
set_option maxRecDepth 100000 in
theorem ru_4  (F : Fix p m c cX2_init 6 s args RX2 A D ca)
    (K : ∀ (H : Heap) (locs : List Loc) (ls : Array Slot), Sta D A s ([(h0, .inr (2, [.ref q1, .ref q2, .ref q3, .ref q4])), (q1, .inl (ca 0, 25, .inl rTu)), (q2, .inl (ca 0, 25, .inl rTo)), (q3, .inl (ca 0, 24, .inl (mid id 24 rEv (fun _ => 0)))), (q4, .inl (ca 0, 24, .inl (mid id 24 rOd (fun _ => 0))))]) H locs → lv_has ls 6 [(4, .int (nI 24)), (3, .int (nI (lf (7 * 24)))), (0, .ref h0)] → W p l en rmRu s m args below meth c H locs 4 98 Q (F0 m 228 ls [])) :
    ∀ (n r : Nat), r ≤ 24 → 24 + 1 ≤ r + n → ∀ (H : Heap) (locs : List Loc) (ls : Array Slot), Sta D A s ([(h0, .inr (2, [.ref q1, .ref q2, .ref q3, .ref q4])), (q1, .inl (ca 0, 25, .inl rTu)), (q2, .inl (ca 0, 25, .inl rTo)), (q3, .inl (ca 0, 24, .inl (mid id r rEv (fun _ => 0)))), (q4, .inl (ca 0, 24, .inl (mid id r rOd (fun _ => 0))))]) H locs → lv_has ls 6 [(4, .int (nI r)), (3, .int (nI (lf (7 * r)))), (0, .ref h0)] → W p l en rmRu s m args below meth c H locs 4 98 Q (F0 m 136 ls []) := by
  have F1 := F
  obtain ⟨hx, hb, hml, hown, hts, hA, hK⟩ := F
  intro n
  induction n with
  | zero => intro r h1 h2; omega
  | succ n ih =>
    intro r hi hn H locs ls hst hl
    obtain ⟨hP, hD, hS⟩ := hst
    refine lv_iload hx hb dX2_init_136 (lv_at hl 0 rfl) ?_
    refine lv_bipush (v := nI 24) hx hb dX2_init_138 (by decide) ?_
    refine n_ge (tgt := 228) hx hb (by omega) (by omega) dX2_init_140 (by decide) (fun hc => ?_) (fun hc => ?_)
    ·
      have e5 : r = 24 := by omega
      subst e5
      exact K H locs ls ⟨hP, hD, hS⟩ hl
    ·
      refine lv_iconst (v := nI 0) hx hb dX2_init_143 (by decide) ?_
      refine lv_istore (lv' := [(5, .int (nI 0)), (4, .int (nI r)), (3, .int (nI (lf (7 * r)))), (0, .ref h0)]) hx hb dX2_init_144 hl (by decide) rfl (fun ls hl => ?_)
      obtain ⟨hP, hD⟩ := P_fn (ws' := [(h0, .inr (2, [.ref q1, .ref q2, .ref q3, .ref q4])), (q1, .inl (ca 0, 25, .inl rTu)), (q2, .inl (ca 0, 25, .inl rTo)), (q3, .inl (ca 0, 24, .inl (upd (mid id r rEv (fun _ => 0)) r (evP r 0)))), (q4, .inl (ca 0, 24, .inl (mid id r rOd (fun _ => 0))))]) hP hD 3 (upd (mid id r rEv (fun _ => 0)) r (evP r 0)) rfl (fun q _ => upd_same (mid_at rfl) q) rfl
      obtain ⟨hP, hD⟩ := P_fn (ws' := [(h0, .inr (2, [.ref q1, .ref q2, .ref q3, .ref q4])), (q1, .inl (ca 0, 25, .inl rTu)), (q2, .inl (ca 0, 25, .inl rTo)), (q3, .inl (ca 0, 24, .inl (upd (mid id r rEv (fun _ => 0)) r (evP r 0)))), (q4, .inl (ca 0, 24, .inl (upd (mid id r rOd (fun _ => 0)) r (odP r 0))))]) hP hD 4 (upd (mid id r rOd (fun _ => 0)) r (odP r 0)) rfl (fun q _ => upd_same (mid_at rfl) q) rfl
      refine ru_3 r (by omega) F1 (fun H locs ls hst hl => ?_) 8 0 (by omega) (by omega) H locs ls ⟨hP, hD, hS⟩ (lv_sub hl [0, 2, 1, 3] rfl)
      obtain ⟨hP, hD, hS⟩ := hst
      refine lv_iinc (v := nI (r + 1)) (lv' := [(4, .int (nI (r + 1))), (5, .int (nI 7)), (3, .int (nI (lf (7 * r + 7)))), (0, .ref h0)]) hx hb dX2_init_222 hl (k := 2) rfl (nI_add _ 1) (by decide) rfl (fun ls hl => ?_)
      refine lv_goto (tgt := 136) hx hb dX2_init_225 (by decide) ?_
      obtain ⟨hP, hD⟩ := P_fn (ws' := [(h0, .inr (2, [.ref q1, .ref q2, .ref q3, .ref q4])), (q1, .inl (ca 0, 25, .inl rTu)), (q2, .inl (ca 0, 25, .inl rTo)), (q3, .inl (ca 0, 24, .inl (mid id (r + 1) rEv (fun _ => 0)))), (q4, .inl (ca 0, 24, .inl (upd (mid id r rOd (fun _ => 0)) r (odP r 7))))]) hP hD 3 (mid id (r + 1) rEv (fun _ => 0)) rfl (mid_up (fun _ _ => Iff.rfl) rfl) rfl
      obtain ⟨hP, hD⟩ := P_fn (ws' := [(h0, .inr (2, [.ref q1, .ref q2, .ref q3, .ref q4])), (q1, .inl (ca 0, 25, .inl rTu)), (q2, .inl (ca 0, 25, .inl rTo)), (q3, .inl (ca 0, 24, .inl (mid id (r + 1) rEv (fun _ => 0)))), (q4, .inl (ca 0, 24, .inl (mid id (r + 1) rOd (fun _ => 0))))]) hP hD 4 (mid id (r + 1) rOd (fun _ => 0)) rfl (mid_up (fun _ _ => Iff.rfl) rfl) rfl
      have hl7 : 7 * r + 7 = 7 * (r + 1) := by omega
      rw [hl7] at hl
      exact ih (r + 1) (by omega) (by omega) H locs ls ⟨hP, hD, hS⟩ (lv_sub hl [0, 2, 3] rfl)
end RU
set_option maxHeartbeats 1000000 in
set_option maxRecDepth 100000 in
theorem m_rules (l : Launch) (D : va_G) (ca : Nat → ClassId) (h0 : Nat)  : MV l yX2_init cX2_init 6 rmRu D ca noX [.ref h0] ([(h0, .inr (2, [.null, .null, .null, .null]))]) (S := Nat × Nat × Nat × Nat) (fun _ => True) (fun u => [(h0, .inr (2, [.ref u.1, .ref u.2.1, .ref u.2.2.1, .ref u.2.2.2])), (u.1, .inl (ca 0, 25, .inl rTu)), (u.2.1, .inl (ca 0, 25, .inl rTo)), (u.2.2.1, .inl (ca 0, 24, .inl rEv)), (u.2.2.2, .inl (ca 0, 24, .inl rOd))]) 4 98 := by
  refine MV.of (by decide) (Nat.le_of_ble_eq_true rfl) ?_
  intro p en s m below meth c A hx hb hr hml hlk hown hts hnm hA hP hK hD hS hX ls hl
  have hown : s.vm.findClass RX2 = some m.cls := hown
  have hl : lv_has ls 6 [(0, .ref h0)] := hl
  have F1 : Fix p m c cX2_init 6 s _ RX2 A D ca := ⟨hx, hb, hml, hown, hts, hA, hK⟩
  have hnm : meth.name = "<init>" := hnm
  refine lv_aload_n hx hb dX2_init_0 rfl (lv_at hl 0 rfl) ?_
  refine W.objInit hx hb hown (hts _ q36) (hts _ q23) (hts _ q24) rfl (by rw [hml]; exact hl.1) rfl dX2_init_1 (Nat.le_of_ble_eq_true rfl) (Nat.le_of_ble_eq_true rfl) ?_
  refine W.eq (g2 := F0 m 4 ls []) rfl ?_
  refine lv_aload_n hx hb dX2_init_4 rfl (lv_at hl 0 rfl) ?_
  refine lv_bipush (v := nI 25) hx hb dX2_init_5 (by decide) ?_
  refine n_newa (atype := .int) (ty := .int) (N := 25) (a0 := (25, .inl (fun _ => 0))) hx hb (hts _ q55) rfl (fun _ h => h) hK hP hD hS hA 0 rfl (fun _ => rfl) (by decide) (by decide) (Nat.le_of_ble_eq_true rfl) (Nat.le_of_ble_eq_true rfl) dX2_init_7 (fun q1 H hP hD hS => ?_)
  have hP : va_P D vwCl ([(h0, .inr (2, [.null, .null, .null, .null])), (q1, .inl (ca 0, 25, .inl ((fun _ => 0))))]) H := hP
  have hD : va_D A ([(h0, .inr (2, [.null, .null, .null, .null])), (q1, .inl (ca 0, 25, .inl ((fun _ => 0))))]) := hD
  refine va_putF (D := D) (ci := 2) (v := .ref q1) (ty := (.array .int)) (C := RX2) (T := TX2) (N := 4) hx hb hts in_X2 tyX2 tyX2_ok nmX2 hown hK hP hD hS 0 rfl rfl 0 (by decide) (hts _ q37) (fun _ h9 => h9) rfl hnm rfl (by decide +kernel) rfl rfl (Nat.le_of_ble_eq_true rfl) dX2_init_9 (fun H locs hP hD hS => ?_)
  have hP : va_P D vwCl ([(h0, .inr (2, [.ref q1, .null, .null, .null])), (q1, .inl (ca 0, 25, .inl ((fun _ => 0))))]) H := hP
  have hD : va_D A ([(h0, .inr (2, [.ref q1, .null, .null, .null])), (q1, .inl (ca 0, 25, .inl ((fun _ => 0))))]) := hD
  refine lv_aload_n hx hb dX2_init_12 rfl (lv_at hl 0 rfl) ?_
  refine lv_bipush (v := nI 25) hx hb dX2_init_13 (by decide) ?_
  refine n_newa (atype := .int) (ty := .int) (N := 25) (a0 := (25, .inl (fun _ => 0))) hx hb (hts _ q55) rfl (fun _ h => h) hK hP hD hS hA 0 rfl (fun _ => rfl) (by decide) (by decide) (Nat.le_of_ble_eq_true rfl) (Nat.le_of_ble_eq_true rfl) dX2_init_15 (fun q2 H hP hD hS => ?_)
  have hP : va_P D vwCl ([(h0, .inr (2, [.ref q1, .null, .null, .null])), (q1, .inl (ca 0, 25, .inl ((fun _ => 0)))), (q2, .inl (ca 0, 25, .inl ((fun _ => 0))))]) H := hP
  have hD : va_D A ([(h0, .inr (2, [.ref q1, .null, .null, .null])), (q1, .inl (ca 0, 25, .inl ((fun _ => 0)))), (q2, .inl (ca 0, 25, .inl ((fun _ => 0))))]) := hD
  refine va_putF (D := D) (ci := 2) (v := .ref q2) (ty := (.array .int)) (C := RX2) (T := TX2) (N := 4) hx hb hts in_X2 tyX2 tyX2_ok nmX2 hown hK hP hD hS 0 rfl rfl 1 (by decide) (hts _ q39) (fun _ h9 => h9) rfl hnm rfl (by decide +kernel) rfl rfl (Nat.le_of_ble_eq_true rfl) dX2_init_17 (fun H locs hP hD hS => ?_)
  have hP : va_P D vwCl ([(h0, .inr (2, [.ref q1, .ref q2, .null, .null])), (q1, .inl (ca 0, 25, .inl ((fun _ => 0)))), (q2, .inl (ca 0, 25, .inl ((fun _ => 0))))]) H := hP
  have hD : va_D A ([(h0, .inr (2, [.ref q1, .ref q2, .null, .null])), (q1, .inl (ca 0, 25, .inl ((fun _ => 0)))), (q2, .inl (ca 0, 25, .inl ((fun _ => 0))))]) := hD
  refine lv_aload_n hx hb dX2_init_20 rfl (lv_at hl 0 rfl) ?_
  refine lv_bipush (v := nI 24) hx hb dX2_init_21 (by decide) ?_
  refine n_newa (atype := .int) (ty := .int) (N := 24) (a0 := (24, .inl (fun _ => 0))) hx hb (hts _ q55) rfl (fun _ h => h) hK hP hD hS hA 0 rfl (fun _ => rfl) (by decide) (by decide) (Nat.le_of_ble_eq_true rfl) (Nat.le_of_ble_eq_true rfl) dX2_init_23 (fun q3 H hP hD hS => ?_)
  have hP : va_P D vwCl ([(h0, .inr (2, [.ref q1, .ref q2, .null, .null])), (q1, .inl (ca 0, 25, .inl ((fun _ => 0)))), (q2, .inl (ca 0, 25, .inl ((fun _ => 0)))), (q3, .inl (ca 0, 24, .inl ((fun _ => 0))))]) H := hP
  have hD : va_D A ([(h0, .inr (2, [.ref q1, .ref q2, .null, .null])), (q1, .inl (ca 0, 25, .inl ((fun _ => 0)))), (q2, .inl (ca 0, 25, .inl ((fun _ => 0)))), (q3, .inl (ca 0, 24, .inl ((fun _ => 0))))]) := hD
  refine va_putF (D := D) (ci := 2) (v := .ref q3) (ty := (.array .int)) (C := RX2) (T := TX2) (N := 4) hx hb hts in_X2 tyX2 tyX2_ok nmX2 hown hK hP hD hS 0 rfl rfl 2 (by decide) (hts _ q41) (fun _ h9 => h9) rfl hnm rfl (by decide +kernel) rfl rfl (Nat.le_of_ble_eq_true rfl) dX2_init_25 (fun H locs hP hD hS => ?_)
  have hP : va_P D vwCl ([(h0, .inr (2, [.ref q1, .ref q2, .ref q3, .null])), (q1, .inl (ca 0, 25, .inl ((fun _ => 0)))), (q2, .inl (ca 0, 25, .inl ((fun _ => 0)))), (q3, .inl (ca 0, 24, .inl ((fun _ => 0))))]) H := hP
  have hD : va_D A ([(h0, .inr (2, [.ref q1, .ref q2, .ref q3, .null])), (q1, .inl (ca 0, 25, .inl ((fun _ => 0)))), (q2, .inl (ca 0, 25, .inl ((fun _ => 0)))), (q3, .inl (ca 0, 24, .inl ((fun _ => 0))))]) := hD
  refine lv_aload_n hx hb dX2_init_28 rfl (lv_at hl 0 rfl) ?_
  refine lv_bipush (v := nI 24) hx hb dX2_init_29 (by decide) ?_
  refine n_newa (atype := .int) (ty := .int) (N := 24) (a0 := (24, .inl (fun _ => 0))) hx hb (hts _ q55) rfl (fun _ h => h) hK hP hD hS hA 0 rfl (fun _ => rfl) (by decide) (by decide) (Nat.le_of_ble_eq_true rfl) (Nat.le_of_ble_eq_true rfl) dX2_init_31 (fun q4 H hP hD hS => ?_)
  have hP : va_P D vwCl ([(h0, .inr (2, [.ref q1, .ref q2, .ref q3, .null])), (q1, .inl (ca 0, 25, .inl ((fun _ => 0)))), (q2, .inl (ca 0, 25, .inl ((fun _ => 0)))), (q3, .inl (ca 0, 24, .inl ((fun _ => 0)))), (q4, .inl (ca 0, 24, .inl ((fun _ => 0))))]) H := hP
  have hD : va_D A ([(h0, .inr (2, [.ref q1, .ref q2, .ref q3, .null])), (q1, .inl (ca 0, 25, .inl ((fun _ => 0)))), (q2, .inl (ca 0, 25, .inl ((fun _ => 0)))), (q3, .inl (ca 0, 24, .inl ((fun _ => 0)))), (q4, .inl (ca 0, 24, .inl ((fun _ => 0))))]) := hD
  refine va_putF (D := D) (ci := 2) (v := .ref q4) (ty := (.array .int)) (C := RX2) (T := TX2) (N := 4) hx hb hts in_X2 tyX2 tyX2_ok nmX2 hown hK hP hD hS 0 rfl rfl 3 (by decide) (hts _ q43) (fun _ h9 => h9) rfl hnm rfl (by decide +kernel) rfl rfl (Nat.le_of_ble_eq_true rfl) dX2_init_33 (fun H locs hP hD hS => ?_)
  have hP : va_P D vwCl ([(h0, .inr (2, [.ref q1, .ref q2, .ref q3, .ref q4])), (q1, .inl (ca 0, 25, .inl ((fun _ => 0)))), (q2, .inl (ca 0, 25, .inl ((fun _ => 0)))), (q3, .inl (ca 0, 24, .inl ((fun _ => 0)))), (q4, .inl (ca 0, 24, .inl ((fun _ => 0))))]) H := hP
  have hD : va_D A ([(h0, .inr (2, [.ref q1, .ref q2, .ref q3, .ref q4])), (q1, .inl (ca 0, 25, .inl ((fun _ => 0)))), (q2, .inl (ca 0, 25, .inl ((fun _ => 0)))), (q3, .inl (ca 0, 24, .inl ((fun _ => 0)))), (q4, .inl (ca 0, 24, .inl ((fun _ => 0))))]) := hD
  refine lv_iconst (v := nI 1) hx hb dX2_init_36 (by decide) ?_
  refine lv_istore_n (lv' := [(1, .int (nI 1)), (0, .ref h0)]) hx hb dX2_init_37 rfl hl (by decide) rfl (fun ls hl => ?_)
  refine lv_iconst (v := nI 0) hx hb dX2_init_38 (by decide) ?_
  refine lv_istore_n (lv' := [(2, .int (nI 0)), (1, .int (nI 1)), (0, .ref h0)]) hx hb dX2_init_39 rfl hl (by decide) rfl (fun ls hl => ?_)
  refine lv_iconst (v := nI 0) hx hb dX2_init_40 (by decide) ?_
  refine lv_istore_n (lv' := [(3, .int (nI 0)), (2, .int (nI 0)), (1, .int (nI 1)), (0, .ref h0)]) hx hb dX2_init_41 rfl hl (by decide) rfl (fun ls hl => ?_)
  have hP : va_P D vwCl ([(h0, .inr (2, [.ref q1, .ref q2, .ref q3, .ref q4])), (q1, .inl (ca 0, 25, .inl (mid ORc 0 rTu (fun _ => 0)))), (q2, .inl (ca 0, 25, .inl ((fun _ => 0)))), (q3, .inl (ca 0, 24, .inl ((fun _ => 0)))), (q4, .inl (ca 0, 24, .inl ((fun _ => 0))))]) H := by rw [mid_0]; exact hP
  have hD : va_D A ([(h0, .inr (2, [.ref q1, .ref q2, .ref q3, .ref q4])), (q1, .inl (ca 0, 25, .inl (mid ORc 0 rTu (fun _ => 0)))), (q2, .inl (ca 0, 25, .inl ((fun _ => 0)))), (q3, .inl (ca 0, 24, .inl ((fun _ => 0)))), (q4, .inl (ca 0, 24, .inl ((fun _ => 0))))]) := by rw [mid_0]; exact hD
  refine ru_1 F1 (fun H locs ls hst hl => ?_) 25 0 (by omega) (by omega) _ _ ls ⟨hP, hD, hS⟩ hl
  obtain ⟨hP, hD, hS⟩ := hst
  obtain ⟨hP, hD⟩ := P_fn (ws' := [(h0, .inr (2, [.ref q1, .ref q2, .ref q3, .ref q4])), (q1, .inl (ca 0, 25, .inl rTu)), (q2, .inl (ca 0, 25, .inl ((fun _ => 0)))), (q3, .inl (ca 0, 24, .inl ((fun _ => 0)))), (q4, .inl (ca 0, 24, .inl ((fun _ => 0))))]) hP hD 1 rTu rfl (mid_OR rfl) rfl
  refine lv_iconst (v := nI 0) hx hb dX2_init_92 (by decide) ?_
  refine lv_istore_n (lv' := [(3, .int (nI 0)), (2, .int (nI ((pq 24).2))), (1, .int (nI ((pq 24).1))), (0, .ref h0)]) hx hb dX2_init_93 rfl hl (by decide) rfl (fun ls hl => ?_)
  have hP : va_P D vwCl ([(h0, .inr (2, [.ref q1, .ref q2, .ref q3, .ref q4])), (q1, .inl (ca 0, 25, .inl rTu)), (q2, .inl (ca 0, 25, .inl (mid id 0 rTo (fun _ => 0)))), (q3, .inl (ca 0, 24, .inl ((fun _ => 0)))), (q4, .inl (ca 0, 24, .inl ((fun _ => 0))))]) H := by rw [mid_0]; exact hP
  have hD : va_D A ([(h0, .inr (2, [.ref q1, .ref q2, .ref q3, .ref q4])), (q1, .inl (ca 0, 25, .inl rTu)), (q2, .inl (ca 0, 25, .inl (mid id 0 rTo (fun _ => 0)))), (q3, .inl (ca 0, 24, .inl ((fun _ => 0)))), (q4, .inl (ca 0, 24, .inl ((fun _ => 0))))]) := by rw [mid_0]; exact hD
  refine ru_2 F1 (fun H locs ls hst hl => ?_) 26 0 (by omega) (by omega) _ _ ls ⟨hP, hD, hS⟩ (lv_sub hl [0, 3] rfl)
  obtain ⟨hP, hD, hS⟩ := hst
  obtain ⟨hP, hD⟩ := P_fn (ws' := [(h0, .inr (2, [.ref q1, .ref q2, .ref q3, .ref q4])), (q1, .inl (ca 0, 25, .inl rTu)), (q2, .inl (ca 0, 25, .inl rTo)), (q3, .inl (ca 0, 24, .inl ((fun _ => 0)))), (q4, .inl (ca 0, 24, .inl ((fun _ => 0))))]) hP hD 2 rTo rfl (mid_end (fun q hq => hq)) rfl
  refine lv_iconst (v := nI 1) hx hb dX2_init_131 (by decide) ?_
  refine lv_istore_n (lv' := [(3, .int (nI 1)), (0, .ref h0)]) hx hb dX2_init_132 rfl hl (by decide) rfl (fun ls hl => ?_)
  refine lv_iconst (v := nI 0) hx hb dX2_init_133 (by decide) ?_
  refine lv_istore (lv' := [(4, .int (nI 0)), (3, .int (nI 1)), (0, .ref h0)]) hx hb dX2_init_134 hl (by decide) rfl (fun ls hl => ?_)
  have hP : va_P D vwCl ([(h0, .inr (2, [.ref q1, .ref q2, .ref q3, .ref q4])), (q1, .inl (ca 0, 25, .inl rTu)), (q2, .inl (ca 0, 25, .inl rTo)), (q3, .inl (ca 0, 24, .inl (mid id 0 rEv (fun _ => 0)))), (q4, .inl (ca 0, 24, .inl (mid id 0 rOd (fun _ => 0))))]) H := by rw [mid_0, mid_0]; exact hP
  have hD : va_D A ([(h0, .inr (2, [.ref q1, .ref q2, .ref q3, .ref q4])), (q1, .inl (ca 0, 25, .inl rTu)), (q2, .inl (ca 0, 25, .inl rTo)), (q3, .inl (ca 0, 24, .inl (mid id 0 rEv (fun _ => 0)))), (q4, .inl (ca 0, 24, .inl (mid id 0 rOd (fun _ => 0))))]) := by rw [mid_0, mid_0]; exact hD
  refine ru_4 F1 (fun H locs ls hst hl => ?_) 25 0 (by omega) (by omega) _ _ ls ⟨hP, hD, hS⟩ (lv_sub hl [0, 1, 2] rfl)
  obtain ⟨hP, hD, hS⟩ := hst
  obtain ⟨hP, hD⟩ := P_fn (ws' := [(h0, .inr (2, [.ref q1, .ref q2, .ref q3, .ref q4])), (q1, .inl (ca 0, 25, .inl rTu)), (q2, .inl (ca 0, 25, .inl rTo)), (q3, .inl (ca 0, 24, .inl rEv)), (q4, .inl (ca 0, 24, .inl (mid id 24 rOd (fun _ => 0))))]) hP hD 3 rEv rfl (mid_end (fun q hq => hq)) rfl
  obtain ⟨hP, hD⟩ := P_fn (ws' := [(h0, .inr (2, [.ref q1, .ref q2, .ref q3, .ref q4])), (q1, .inl (ca 0, 25, .inl rTu)), (q2, .inl (ca 0, 25, .inl rTo)), (q3, .inl (ca 0, 24, .inl rEv)), (q4, .inl (ca 0, 24, .inl rOd))]) hP hD 4 rOd rfl (mid_end (fun q hq => hq)) rfl
  exact vend hx hb hr hlk (q1, q2, q3, q4) trivial hP hK hD hS (Nat.le_refl _) (Nat.le_refl _) dX2_init_228
end
section
/-! the desk: its given numbers, its bytes -/
def RT (k : Nat) : Nat := [144, 136, 104, 72, 168, 136].getD k 0
def SU (k : Nat) : Nat := [28, 32, 48, 64].getD k 0
theorem RT_lt : ∀ k, k < 6 → 0 < RT k ∧ RT k < 200 ∧ 72 ≤ RT k := by decide
theorem SU_lt : ∀ k, k < 4 → SU k ≤ 64 := by decide
/-- what a desk's methods take of the start: the two given arrays, the nest's link -/
def dkX (t1 t2 : Nat) (A : Nat → Prop) (U : State) : Prop := va_Z "SpongeDesk" "RATES" "[I" (.ref t1) A U U.heap ∧ va_T .int t1 6 (fun j => .int (nI (RT j))) A U U.heap ∧ va_Z "SpongeDesk" "SUMS" "[I" (.ref t2) A U U.heap ∧ va_T .int t2 4 (fun j => .int (nI (SU j))) A U U.heap ∧ va_Nw (.methodLinkNest "SpongeDesk" 18 yX1_init "SpongeDesk") U
theorem dkX.blind {t1 t2 : Nat} : ∀ (B : Nat → Prop) (U : State) (g : JFrame) (mk : MethodId) (a : Array Value), dkX t1 t2 B U → dkX t1 t2 B (U.calling g mk a) := by
  intro B U g mk a hq
  obtain ⟨h1, h2, h3, h4, h5⟩ := hq
  exact ⟨va_Z.moved (u := U) (U := U.calling g mk a) (Vm.Alike.refl U.vm) h1, va_T.moved (u := U) (U := U.calling g mk a) (Vm.Alike.refl U.vm) h2, va_Z.moved (u := U) (U := U.calling g mk a) (Vm.Alike.refl U.vm) h3, va_T.moved (u := U) (U := U.calling g mk a) (Vm.Alike.refl U.vm) h4, va_tabs (A := #[]) (u := U) rfl rfl h5⟩
theorem dkX.at {t1 t2 : Nat} {A : Nat → Prop} {s : State} {H : Heap} {locs : List Loc} {B : Nat → Prop} (hX : dkX t1 t2 A s) (hS : va_S A s.heap H locs) (hF : ∀ q, B q → A q) : ∀ U : State, U.heap = H → s.WarmedH U.vm → dkX t1 t2 B U := by
  intro U hU hW
  obtain ⟨h1, h2, h3, h4, h5⟩ := hX
  have hk : ∀ a : Nat, a < s.heap.size → ¬ A a → U.heap[a]? = s.heap[a]? := fun a q1 q2 => by rw [hU]; exact hS.2.1 a q1 q2
  exact ⟨((h1.kept hk).narrow hF).moved hW.alike, ((h2.kept hk).narrow hF).moved hW.alike, ((h3.kept hk).narrow hF).moved hW.alike, ((h4.kept hk).narrow hF).moved hW.alike, va_Nw.warmM hW h5⟩
def byt (w : Int32) (k : Nat) : Int32 := (w >>> (nI k &&& 31)).toInt8.toInt32.toInt8.toInt32
def add4 (t : Nat → Int32) (q : Nat) (w : Int32) : Nat → Int32 := upd (upd (upd (upd t q (byt w 24)) (q + 1) (byt w 16)) (q + 1 + 1) (byt w 8)) (q + 1 + 1 + 1) (byt w 0)
def putT (t : Nat → Int32) (q : Nat) (a b c d : Int32) : Nat → Int32 := add4 (add4 (add4 (add4 t q a) (q + 1 + 1 + 1 + 1) b) (q + 1 + 1 + 1 + 1 + 1 + 1 + 1 + 1) c) (q + 1 + 1 + 1 + 1 + 1 + 1 + 1 + 1 + 1 + 1 + 1 + 1) d
theorem mod_succ {x r : Nat} (hr : 0 < r) : (if x % r + 1 = r then 0 else x % r + 1) = (x + 1) % r := by
  have h := Nat.mod_lt x hr
  by_cases h1 : x % r + 1 = r
  · rw [if_pos h1, Nat.add_mod]
    rcases Nat.lt_or_ge 1 r with q | q
    · rw [Nat.mod_eq_of_lt q, h1, Nat.mod_self]
    · have e1 : r = 1 := by omega
      subst e1
      rw [Nat.mod_one]
  · rw [if_neg h1, Nat.add_mod, Nat.mod_eq_of_lt (show 1 < r by omega), Nat.mod_eq_of_lt (show x % r + 1 < r by omega)]
def cu8 (x : Int32) : Nat := (x &&& nI 255).toBitVec.toNat
theorem cu8_eq (x : Int32) : x &&& nI 255 = nI (cu8 x) ∧ cu8 x < 256 := by
  obtain ⟨j, hj, e⟩ := pk_andE x (m := nI 255) 8 (by decide)
  have h : cu8 x = j := by
    unfold cu8
    rw [e]
    exact pk_tn (by omega)
  exact ⟨by rw [h]; exact e, by omega⟩
def wDk3 (ca : Nat → ClassId) (h : Nat → Nat) (tx kp : Nat → Int32) (len kd fd gv kl cl : Int32) : va_W :=
  [(h 12, .inr (0, [.ref (h 13), .ref (h 14), .ref (h 0), .int len, .int kd, .int fd, .int gv, .int kl, .int cl])), (h 13, .inl (ca 1, 4096, .inl tx)), (h 14, .inl (ca 1, 255, .inl kp))]
end
section
/-! Sponge() and the desk: begin, size, trim, add, put -/
abbrev rmSi : Room := { frames := 2, cells := 11, slots := 212, locals := 37 }
set_option maxHeartbeats 1000000 in
set_option maxRecDepth 100000 in
theorem m_sinit (l : Launch) (D : va_G) (ca : Nat → ClassId) (h0 : Nat)  : MV l yX1_init cX1_init 1 rmSi D ca noX [.ref h0] ([(h0, .inr (1, [.null, .null, .null, .null, .null, .null, .null, .int 0, .int 0]))]) (S := Nat → Nat) (fun u => u 0 = h0) (fun u => wSp ca u (fun _ => 0) (fun _ => 0) (fun _ => 0) (fun _ => 0) (fun _ => 0) (fun _ => 0) 0 0) 11 212 := by
  refine MV.of (by decide) (Nat.le_of_ble_eq_true rfl) ?_
  intro p en s m below meth c A hx hb hr hml hlk hown hts hnm hA hP hK hD hS hX ls hl
  have hown : s.vm.findClass RX1 = some m.cls := hown
  have hl : lv_has ls 1 [(0, .ref h0)] := hl
  have hnm : meth.name = "<init>" := hnm
  refine lv_aload_n hx hb dX1_init_0 rfl (lv_at hl 0 rfl) ?_
  refine W.objInit hx hb hown (hts _ q30) (hts _ q23) (hts _ q24) rfl (by rw [hml]; exact hl.1) rfl dX1_init_1 (Nat.le_of_ble_eq_true rfl) (Nat.le_of_ble_eq_true rfl) ?_
  refine W.eq (g2 := F0 m 4 ls []) rfl ?_
  refine lv_aload_n hx hb dX1_init_4 rfl (lv_at hl 0 rfl) ?_
  refine va_new (ci := 2) (fs := [.null, .null, .null, .null]) (C := RX2) (T := TX2) (N := 4) hx hb hts in_X2 tyX2 tyX2_ok hown (hts _ q31) (hts _ q32) (hts _ q14) hK hP hD hS hA rfl (fun j hj => by rcases (show j = 0 ∨ j = 1 ∨ j = 2 ∨ j = 3 by omega) with rfl | rfl | rfl | rfl <;> rfl) (Nat.le_of_ble_eq_true rfl) (Nat.le_of_ble_eq_true rfl) dX1_init_5 (fun q7 H hP hD hS => ?_)
  have hP : va_P D vwCl ([(h0, .inr (1, [.null, .null, .null, .null, .null, .null, .null, .int 0, .int 0])), (q7, .inr (2, [.null, .null, .null, .null]))]) H := hP
  have hD : va_D A ([(h0, .inr (1, [.null, .null, .null, .null, .null, .null, .null, .int 0, .int 0])), (q7, .inr (2, [.null, .null, .null, .null]))]) := hD
  refine lv_dup hx hb dX1_init_8 rfl ?_
  refine cIv (wr := [(h0, .inr (1, [.null, .null, .null, .null, .null, .null, .null, .int 0, .int 0]))]) (As := []) (rest := [.ref q7, .ref h0]) ⟨hx, hb, hml, hown, hts⟩ (m_rules l D ca q7) (cwI 0 hts (lw_meth q35) rfl rfl rfl (hts _ q14) (hts _ q33) (hts _ q34) rfl (by decide +kernel) ⟨Nat.le_of_ble_eq_true rfl, Nat.le_of_ble_eq_true rfl⟩) hK hP hD hS hA [1] [0] rfl rfl (by decide) (by decide) (by decide) (fun _ _ _ _ _ _ => trivial) (fun _ _ _ => trivial) rfl hl.1 rfl (Nat.le_of_ble_eq_true rfl) dX1_init_9 ⟨Nat.le_of_ble_eq_true rfl, Nat.le_of_ble_eq_true rfl⟩ (fun ⟨q8, q9, q10, q11⟩ H locs hpo hP hD hS => ?_)
  have hP : va_P D vwCl ([(h0, .inr (1, [.null, .null, .null, .null, .null, .null, .null, .int 0, .int 0])), (q7, .inr (2, [.ref q8, .ref q9, .ref q10, .ref q11])), (q8, .inl (ca 0, 25, .inl rTu)), (q9, .inl (ca 0, 25, .inl rTo)), (q10, .inl (ca 0, 24, .inl rEv)), (q11, .inl (ca 0, 24, .inl rOd))]) H := hP
  have hD : va_D A ([(h0, .inr (1, [.null, .null, .null, .null, .null, .null, .null, .int 0, .int 0])), (q7, .inr (2, [.ref q8, .ref q9, .ref q10, .ref q11])), (q8, .inl (ca 0, 25, .inl rTu)), (q9, .inl (ca 0, 25, .inl rTo)), (q10, .inl (ca 0, 24, .inl rEv)), (q11, .inl (ca 0, 24, .inl rOd))]) := hD
  refine va_putF (D := D) (ci := 1) (v := .ref q7) (ty := (.object "SpongeDesk$Rules")) (C := RX1) (T := TX1) (N := 9) hx hb hts in_X1 tyX1 tyX1_ok nmX1 hown hK hP hD hS 0 rfl rfl 0 (by decide) (hts _ q56) (fun _ h9 => h9) rfl hnm rfl (by decide +kernel) rfl rfl (Nat.le_of_ble_eq_true rfl) dX1_init_12 (fun H locs hP hD hS => ?_)
  have hP : va_P D vwCl ([(h0, .inr (1, [.ref q7, .null, .null, .null, .null, .null, .null, .int 0, .int 0])), (q7, .inr (2, [.ref q8, .ref q9, .ref q10, .ref q11])), (q8, .inl (ca 0, 25, .inl rTu)), (q9, .inl (ca 0, 25, .inl rTo)), (q10, .inl (ca 0, 24, .inl rEv)), (q11, .inl (ca 0, 24, .inl rOd))]) H := hP
  have hD : va_D A ([(h0, .inr (1, [.ref q7, .null, .null, .null, .null, .null, .null, .int 0, .int 0])), (q7, .inr (2, [.ref q8, .ref q9, .ref q10, .ref q11])), (q8, .inl (ca 0, 25, .inl rTu)), (q9, .inl (ca 0, 25, .inl rTo)), (q10, .inl (ca 0, 24, .inl rEv)), (q11, .inl (ca 0, 24, .inl rOd))]) := hD
  refine lv_aload_n hx hb dX1_init_15 rfl (lv_at hl 0 rfl) ?_
  refine lv_bipush (v := nI 25) hx hb dX1_init_16 (by decide) ?_
  refine n_newa (atype := .int) (ty := .int) (N := 25) (a0 := (25, .inl (fun _ => 0))) hx hb (hts _ q55) rfl (fun _ h => h) hK hP hD hS hA 0 rfl (fun _ => rfl) (by decide) (by decide) (Nat.le_of_ble_eq_true rfl) (Nat.le_of_ble_eq_true rfl) dX1_init_18 (fun q1 H hP hD hS => ?_)
  have hP : va_P D vwCl ([(h0, .inr (1, [.ref q7, .null, .null, .null, .null, .null, .null, .int 0, .int 0])), (q7, .inr (2, [.ref q8, .ref q9, .ref q10, .ref q11])), (q8, .inl (ca 0, 25, .inl rTu)), (q9, .inl (ca 0, 25, .inl rTo)), (q10, .inl (ca 0, 24, .inl rEv)), (q11, .inl (ca 0, 24, .inl rOd)), (q1, .inl (ca 0, 25, .inl ((fun _ => 0))))]) H := hP
  have hD : va_D A ([(h0, .inr (1, [.ref q7, .null, .null, .null, .null, .null, .null, .int 0, .int 0])), (q7, .inr (2, [.ref q8, .ref q9, .ref q10, .ref q11])), (q8, .inl (ca 0, 25, .inl rTu)), (q9, .inl (ca 0, 25, .inl rTo)), (q10, .inl (ca 0, 24, .inl rEv)), (q11, .inl (ca 0, 24, .inl rOd)), (q1, .inl (ca 0, 25, .inl ((fun _ => 0))))]) := hD
  refine va_putF (D := D) (ci := 1) (v := .ref q1) (ty := (.array .int)) (C := RX1) (T := TX1) (N := 9) hx hb hts in_X1 tyX1 tyX1_ok nmX1 hown hK hP hD hS 0 rfl rfl 1 (by decide) (hts _ q57) (fun _ h9 => h9) rfl hnm rfl (by decide +kernel) rfl rfl (Nat.le_of_ble_eq_true rfl) dX1_init_20 (fun H locs hP hD hS => ?_)
  have hP : va_P D vwCl ([(h0, .inr (1, [.ref q7, .ref q1, .null, .null, .null, .null, .null, .int 0, .int 0])), (q7, .inr (2, [.ref q8, .ref q9, .ref q10, .ref q11])), (q8, .inl (ca 0, 25, .inl rTu)), (q9, .inl (ca 0, 25, .inl rTo)), (q10, .inl (ca 0, 24, .inl rEv)), (q11, .inl (ca 0, 24, .inl rOd)), (q1, .inl (ca 0, 25, .inl ((fun _ => 0))))]) H := hP
  have hD : va_D A ([(h0, .inr (1, [.ref q7, .ref q1, .null, .null, .null, .null, .null, .int 0, .int 0])), (q7, .inr (2, [.ref q8, .ref q9, .ref q10, .ref q11])), (q8, .inl (ca 0, 25, .inl rTu)), (q9, .inl (ca 0, 25, .inl rTo)), (q10, .inl (ca 0, 24, .inl rEv)), (q11, .inl (ca 0, 24, .inl rOd)), (q1, .inl (ca 0, 25, .inl ((fun _ => 0))))]) := hD
  refine lv_aload_n hx hb dX1_init_23 rfl (lv_at hl 0 rfl) ?_
  refine lv_bipush (v := nI 25) hx hb dX1_init_24 (by decide) ?_
  refine n_newa (atype := .int) (ty := .int) (N := 25) (a0 := (25, .inl (fun _ => 0))) hx hb (hts _ q55) rfl (fun _ h => h) hK hP hD hS hA 0 rfl (fun _ => rfl) (by decide) (by decide) (Nat.le_of_ble_eq_true rfl) (Nat.le_of_ble_eq_true rfl) dX1_init_26 (fun q2 H hP hD hS => ?_)
  have hP : va_P D vwCl ([(h0, .inr (1, [.ref q7, .ref q1, .null, .null, .null, .null, .null, .int 0, .int 0])), (q7, .inr (2, [.ref q8, .ref q9, .ref q10, .ref q11])), (q8, .inl (ca 0, 25, .inl rTu)), (q9, .inl (ca 0, 25, .inl rTo)), (q10, .inl (ca 0, 24, .inl rEv)), (q11, .inl (ca 0, 24, .inl rOd)), (q1, .inl (ca 0, 25, .inl ((fun _ => 0)))), (q2, .inl (ca 0, 25, .inl ((fun _ => 0))))]) H := hP
  have hD : va_D A ([(h0, .inr (1, [.ref q7, .ref q1, .null, .null, .null, .null, .null, .int 0, .int 0])), (q7, .inr (2, [.ref q8, .ref q9, .ref q10, .ref q11])), (q8, .inl (ca 0, 25, .inl rTu)), (q9, .inl (ca 0, 25, .inl rTo)), (q10, .inl (ca 0, 24, .inl rEv)), (q11, .inl (ca 0, 24, .inl rOd)), (q1, .inl (ca 0, 25, .inl ((fun _ => 0)))), (q2, .inl (ca 0, 25, .inl ((fun _ => 0))))]) := hD
  refine va_putF (D := D) (ci := 1) (v := .ref q2) (ty := (.array .int)) (C := RX1) (T := TX1) (N := 9) hx hb hts in_X1 tyX1 tyX1_ok nmX1 hown hK hP hD hS 0 rfl rfl 2 (by decide) (hts _ q58) (fun _ h9 => h9) rfl hnm rfl (by decide +kernel) rfl rfl (Nat.le_of_ble_eq_true rfl) dX1_init_28 (fun H locs hP hD hS => ?_)
  have hP : va_P D vwCl ([(h0, .inr (1, [.ref q7, .ref q1, .ref q2, .null, .null, .null, .null, .int 0, .int 0])), (q7, .inr (2, [.ref q8, .ref q9, .ref q10, .ref q11])), (q8, .inl (ca 0, 25, .inl rTu)), (q9, .inl (ca 0, 25, .inl rTo)), (q10, .inl (ca 0, 24, .inl rEv)), (q11, .inl (ca 0, 24, .inl rOd)), (q1, .inl (ca 0, 25, .inl ((fun _ => 0)))), (q2, .inl (ca 0, 25, .inl ((fun _ => 0))))]) H := hP
  have hD : va_D A ([(h0, .inr (1, [.ref q7, .ref q1, .ref q2, .null, .null, .null, .null, .int 0, .int 0])), (q7, .inr (2, [.ref q8, .ref q9, .ref q10, .ref q11])), (q8, .inl (ca 0, 25, .inl rTu)), (q9, .inl (ca 0, 25, .inl rTo)), (q10, .inl (ca 0, 24, .inl rEv)), (q11, .inl (ca 0, 24, .inl rOd)), (q1, .inl (ca 0, 25, .inl ((fun _ => 0)))), (q2, .inl (ca 0, 25, .inl ((fun _ => 0))))]) := hD
  refine lv_aload_n hx hb dX1_init_31 rfl (lv_at hl 0 rfl) ?_
  refine lv_bipush (v := nI 25) hx hb dX1_init_32 (by decide) ?_
  refine n_newa (atype := .int) (ty := .int) (N := 25) (a0 := (25, .inl (fun _ => 0))) hx hb (hts _ q55) rfl (fun _ h => h) hK hP hD hS hA 0 rfl (fun _ => rfl) (by decide) (by decide) (Nat.le_of_ble_eq_true rfl) (Nat.le_of_ble_eq_true rfl) dX1_init_34 (fun q3 H hP hD hS => ?_)
  have hP : va_P D vwCl ([(h0, .inr (1, [.ref q7, .ref q1, .ref q2, .null, .null, .null, .null, .int 0, .int 0])), (q7, .inr (2, [.ref q8, .ref q9, .ref q10, .ref q11])), (q8, .inl (ca 0, 25, .inl rTu)), (q9, .inl (ca 0, 25, .inl rTo)), (q10, .inl (ca 0, 24, .inl rEv)), (q11, .inl (ca 0, 24, .inl rOd)), (q1, .inl (ca 0, 25, .inl ((fun _ => 0)))), (q2, .inl (ca 0, 25, .inl ((fun _ => 0)))), (q3, .inl (ca 0, 25, .inl ((fun _ => 0))))]) H := hP
  have hD : va_D A ([(h0, .inr (1, [.ref q7, .ref q1, .ref q2, .null, .null, .null, .null, .int 0, .int 0])), (q7, .inr (2, [.ref q8, .ref q9, .ref q10, .ref q11])), (q8, .inl (ca 0, 25, .inl rTu)), (q9, .inl (ca 0, 25, .inl rTo)), (q10, .inl (ca 0, 24, .inl rEv)), (q11, .inl (ca 0, 24, .inl rOd)), (q1, .inl (ca 0, 25, .inl ((fun _ => 0)))), (q2, .inl (ca 0, 25, .inl ((fun _ => 0)))), (q3, .inl (ca 0, 25, .inl ((fun _ => 0))))]) := hD
  refine va_putF (D := D) (ci := 1) (v := .ref q3) (ty := (.array .int)) (C := RX1) (T := TX1) (N := 9) hx hb hts in_X1 tyX1 tyX1_ok nmX1 hown hK hP hD hS 0 rfl rfl 3 (by decide) (hts _ q59) (fun _ h9 => h9) rfl hnm rfl (by decide +kernel) rfl rfl (Nat.le_of_ble_eq_true rfl) dX1_init_36 (fun H locs hP hD hS => ?_)
  have hP : va_P D vwCl ([(h0, .inr (1, [.ref q7, .ref q1, .ref q2, .ref q3, .null, .null, .null, .int 0, .int 0])), (q7, .inr (2, [.ref q8, .ref q9, .ref q10, .ref q11])), (q8, .inl (ca 0, 25, .inl rTu)), (q9, .inl (ca 0, 25, .inl rTo)), (q10, .inl (ca 0, 24, .inl rEv)), (q11, .inl (ca 0, 24, .inl rOd)), (q1, .inl (ca 0, 25, .inl ((fun _ => 0)))), (q2, .inl (ca 0, 25, .inl ((fun _ => 0)))), (q3, .inl (ca 0, 25, .inl ((fun _ => 0))))]) H := hP
  have hD : va_D A ([(h0, .inr (1, [.ref q7, .ref q1, .ref q2, .ref q3, .null, .null, .null, .int 0, .int 0])), (q7, .inr (2, [.ref q8, .ref q9, .ref q10, .ref q11])), (q8, .inl (ca 0, 25, .inl rTu)), (q9, .inl (ca 0, 25, .inl rTo)), (q10, .inl (ca 0, 24, .inl rEv)), (q11, .inl (ca 0, 24, .inl rOd)), (q1, .inl (ca 0, 25, .inl ((fun _ => 0)))), (q2, .inl (ca 0, 25, .inl ((fun _ => 0)))), (q3, .inl (ca 0, 25, .inl ((fun _ => 0))))]) := hD
  refine lv_aload_n hx hb dX1_init_39 rfl (lv_at hl 0 rfl) ?_
  refine lv_bipush (v := nI 25) hx hb dX1_init_40 (by decide) ?_
  refine n_newa (atype := .int) (ty := .int) (N := 25) (a0 := (25, .inl (fun _ => 0))) hx hb (hts _ q55) rfl (fun _ h => h) hK hP hD hS hA 0 rfl (fun _ => rfl) (by decide) (by decide) (Nat.le_of_ble_eq_true rfl) (Nat.le_of_ble_eq_true rfl) dX1_init_42 (fun q4 H hP hD hS => ?_)
  have hP : va_P D vwCl ([(h0, .inr (1, [.ref q7, .ref q1, .ref q2, .ref q3, .null, .null, .null, .int 0, .int 0])), (q7, .inr (2, [.ref q8, .ref q9, .ref q10, .ref q11])), (q8, .inl (ca 0, 25, .inl rTu)), (q9, .inl (ca 0, 25, .inl rTo)), (q10, .inl (ca 0, 24, .inl rEv)), (q11, .inl (ca 0, 24, .inl rOd)), (q1, .inl (ca 0, 25, .inl ((fun _ => 0)))), (q2, .inl (ca 0, 25, .inl ((fun _ => 0)))), (q3, .inl (ca 0, 25, .inl ((fun _ => 0)))), (q4, .inl (ca 0, 25, .inl ((fun _ => 0))))]) H := hP
  have hD : va_D A ([(h0, .inr (1, [.ref q7, .ref q1, .ref q2, .ref q3, .null, .null, .null, .int 0, .int 0])), (q7, .inr (2, [.ref q8, .ref q9, .ref q10, .ref q11])), (q8, .inl (ca 0, 25, .inl rTu)), (q9, .inl (ca 0, 25, .inl rTo)), (q10, .inl (ca 0, 24, .inl rEv)), (q11, .inl (ca 0, 24, .inl rOd)), (q1, .inl (ca 0, 25, .inl ((fun _ => 0)))), (q2, .inl (ca 0, 25, .inl ((fun _ => 0)))), (q3, .inl (ca 0, 25, .inl ((fun _ => 0)))), (q4, .inl (ca 0, 25, .inl ((fun _ => 0))))]) := hD
  refine va_putF (D := D) (ci := 1) (v := .ref q4) (ty := (.array .int)) (C := RX1) (T := TX1) (N := 9) hx hb hts in_X1 tyX1 tyX1_ok nmX1 hown hK hP hD hS 0 rfl rfl 4 (by decide) (hts _ q60) (fun _ h9 => h9) rfl hnm rfl (by decide +kernel) rfl rfl (Nat.le_of_ble_eq_true rfl) dX1_init_44 (fun H locs hP hD hS => ?_)
  have hP : va_P D vwCl ([(h0, .inr (1, [.ref q7, .ref q1, .ref q2, .ref q3, .ref q4, .null, .null, .int 0, .int 0])), (q7, .inr (2, [.ref q8, .ref q9, .ref q10, .ref q11])), (q8, .inl (ca 0, 25, .inl rTu)), (q9, .inl (ca 0, 25, .inl rTo)), (q10, .inl (ca 0, 24, .inl rEv)), (q11, .inl (ca 0, 24, .inl rOd)), (q1, .inl (ca 0, 25, .inl ((fun _ => 0)))), (q2, .inl (ca 0, 25, .inl ((fun _ => 0)))), (q3, .inl (ca 0, 25, .inl ((fun _ => 0)))), (q4, .inl (ca 0, 25, .inl ((fun _ => 0))))]) H := hP
  have hD : va_D A ([(h0, .inr (1, [.ref q7, .ref q1, .ref q2, .ref q3, .ref q4, .null, .null, .int 0, .int 0])), (q7, .inr (2, [.ref q8, .ref q9, .ref q10, .ref q11])), (q8, .inl (ca 0, 25, .inl rTu)), (q9, .inl (ca 0, 25, .inl rTo)), (q10, .inl (ca 0, 24, .inl rEv)), (q11, .inl (ca 0, 24, .inl rOd)), (q1, .inl (ca 0, 25, .inl ((fun _ => 0)))), (q2, .inl (ca 0, 25, .inl ((fun _ => 0)))), (q3, .inl (ca 0, 25, .inl ((fun _ => 0)))), (q4, .inl (ca 0, 25, .inl ((fun _ => 0))))]) := hD
  refine lv_aload_n hx hb dX1_init_47 rfl (lv_at hl 0 rfl) ?_
  refine lv_iconst (v := nI 5) hx hb dX1_init_48 (by decide) ?_
  refine n_newa (atype := .int) (ty := .int) (N := 5) (a0 := (5, .inl (fun _ => 0))) hx hb (hts _ q55) rfl (fun _ h => h) hK hP hD hS hA 0 rfl (fun _ => rfl) (by decide) (by decide) (Nat.le_of_ble_eq_true rfl) (Nat.le_of_ble_eq_true rfl) dX1_init_49 (fun q5 H hP hD hS => ?_)
  have hP : va_P D vwCl ([(h0, .inr (1, [.ref q7, .ref q1, .ref q2, .ref q3, .ref q4, .null, .null, .int 0, .int 0])), (q7, .inr (2, [.ref q8, .ref q9, .ref q10, .ref q11])), (q8, .inl (ca 0, 25, .inl rTu)), (q9, .inl (ca 0, 25, .inl rTo)), (q10, .inl (ca 0, 24, .inl rEv)), (q11, .inl (ca 0, 24, .inl rOd)), (q1, .inl (ca 0, 25, .inl ((fun _ => 0)))), (q2, .inl (ca 0, 25, .inl ((fun _ => 0)))), (q3, .inl (ca 0, 25, .inl ((fun _ => 0)))), (q4, .inl (ca 0, 25, .inl ((fun _ => 0)))), (q5, .inl (ca 0, 5, .inl ((fun _ => 0))))]) H := hP
  have hD : va_D A ([(h0, .inr (1, [.ref q7, .ref q1, .ref q2, .ref q3, .ref q4, .null, .null, .int 0, .int 0])), (q7, .inr (2, [.ref q8, .ref q9, .ref q10, .ref q11])), (q8, .inl (ca 0, 25, .inl rTu)), (q9, .inl (ca 0, 25, .inl rTo)), (q10, .inl (ca 0, 24, .inl rEv)), (q11, .inl (ca 0, 24, .inl rOd)), (q1, .inl (ca 0, 25, .inl ((fun _ => 0)))), (q2, .inl (ca 0, 25, .inl ((fun _ => 0)))), (q3, .inl (ca 0, 25, .inl ((fun _ => 0)))), (q4, .inl (ca 0, 25, .inl ((fun _ => 0)))), (q5, .inl (ca 0, 5, .inl ((fun _ => 0))))]) := hD
  refine va_putF (D := D) (ci := 1) (v := .ref q5) (ty := (.array .int)) (C := RX1) (T := TX1) (N := 9) hx hb hts in_X1 tyX1 tyX1_ok nmX1 hown hK hP hD hS 0 rfl rfl 5 (by decide) (hts _ q61) (fun _ h9 => h9) rfl hnm rfl (by decide +kernel) rfl rfl (Nat.le_of_ble_eq_true rfl) dX1_init_51 (fun H locs hP hD hS => ?_)
  have hP : va_P D vwCl ([(h0, .inr (1, [.ref q7, .ref q1, .ref q2, .ref q3, .ref q4, .ref q5, .null, .int 0, .int 0])), (q7, .inr (2, [.ref q8, .ref q9, .ref q10, .ref q11])), (q8, .inl (ca 0, 25, .inl rTu)), (q9, .inl (ca 0, 25, .inl rTo)), (q10, .inl (ca 0, 24, .inl rEv)), (q11, .inl (ca 0, 24, .inl rOd)), (q1, .inl (ca 0, 25, .inl ((fun _ => 0)))), (q2, .inl (ca 0, 25, .inl ((fun _ => 0)))), (q3, .inl (ca 0, 25, .inl ((fun _ => 0)))), (q4, .inl (ca 0, 25, .inl ((fun _ => 0)))), (q5, .inl (ca 0, 5, .inl ((fun _ => 0))))]) H := hP
  have hD : va_D A ([(h0, .inr (1, [.ref q7, .ref q1, .ref q2, .ref q3, .ref q4, .ref q5, .null, .int 0, .int 0])), (q7, .inr (2, [.ref q8, .ref q9, .ref q10, .ref q11])), (q8, .inl (ca 0, 25, .inl rTu)), (q9, .inl (ca 0, 25, .inl rTo)), (q10, .inl (ca 0, 24, .inl rEv)), (q11, .inl (ca 0, 24, .inl rOd)), (q1, .inl (ca 0, 25, .inl ((fun _ => 0)))), (q2, .inl (ca 0, 25, .inl ((fun _ => 0)))), (q3, .inl (ca 0, 25, .inl ((fun _ => 0)))), (q4, .inl (ca 0, 25, .inl ((fun _ => 0)))), (q5, .inl (ca 0, 5, .inl ((fun _ => 0))))]) := hD
  refine lv_aload_n hx hb dX1_init_54 rfl (lv_at hl 0 rfl) ?_
  refine lv_iconst (v := nI 5) hx hb dX1_init_55 (by decide) ?_
  refine n_newa (atype := .int) (ty := .int) (N := 5) (a0 := (5, .inl (fun _ => 0))) hx hb (hts _ q55) rfl (fun _ h => h) hK hP hD hS hA 0 rfl (fun _ => rfl) (by decide) (by decide) (Nat.le_of_ble_eq_true rfl) (Nat.le_of_ble_eq_true rfl) dX1_init_56 (fun q6 H hP hD hS => ?_)
  have hP : va_P D vwCl ([(h0, .inr (1, [.ref q7, .ref q1, .ref q2, .ref q3, .ref q4, .ref q5, .null, .int 0, .int 0])), (q7, .inr (2, [.ref q8, .ref q9, .ref q10, .ref q11])), (q8, .inl (ca 0, 25, .inl rTu)), (q9, .inl (ca 0, 25, .inl rTo)), (q10, .inl (ca 0, 24, .inl rEv)), (q11, .inl (ca 0, 24, .inl rOd)), (q1, .inl (ca 0, 25, .inl ((fun _ => 0)))), (q2, .inl (ca 0, 25, .inl ((fun _ => 0)))), (q3, .inl (ca 0, 25, .inl ((fun _ => 0)))), (q4, .inl (ca 0, 25, .inl ((fun _ => 0)))), (q5, .inl (ca 0, 5, .inl ((fun _ => 0)))), (q6, .inl (ca 0, 5, .inl ((fun _ => 0))))]) H := hP
  have hD : va_D A ([(h0, .inr (1, [.ref q7, .ref q1, .ref q2, .ref q3, .ref q4, .ref q5, .null, .int 0, .int 0])), (q7, .inr (2, [.ref q8, .ref q9, .ref q10, .ref q11])), (q8, .inl (ca 0, 25, .inl rTu)), (q9, .inl (ca 0, 25, .inl rTo)), (q10, .inl (ca 0, 24, .inl rEv)), (q11, .inl (ca 0, 24, .inl rOd)), (q1, .inl (ca 0, 25, .inl ((fun _ => 0)))), (q2, .inl (ca 0, 25, .inl ((fun _ => 0)))), (q3, .inl (ca 0, 25, .inl ((fun _ => 0)))), (q4, .inl (ca 0, 25, .inl ((fun _ => 0)))), (q5, .inl (ca 0, 5, .inl ((fun _ => 0)))), (q6, .inl (ca 0, 5, .inl ((fun _ => 0))))]) := hD
  refine va_putF (D := D) (ci := 1) (v := .ref q6) (ty := (.array .int)) (C := RX1) (T := TX1) (N := 9) hx hb hts in_X1 tyX1 tyX1_ok nmX1 hown hK hP hD hS 0 rfl rfl 6 (by decide) (hts _ q62) (fun _ h9 => h9) rfl hnm rfl (by decide +kernel) rfl rfl (Nat.le_of_ble_eq_true rfl) dX1_init_58 (fun H locs hP hD hS => ?_)
  have hP : va_P D vwCl ([(h0, .inr (1, [.ref q7, .ref q1, .ref q2, .ref q3, .ref q4, .ref q5, .ref q6, .int 0, .int 0])), (q7, .inr (2, [.ref q8, .ref q9, .ref q10, .ref q11])), (q8, .inl (ca 0, 25, .inl rTu)), (q9, .inl (ca 0, 25, .inl rTo)), (q10, .inl (ca 0, 24, .inl rEv)), (q11, .inl (ca 0, 24, .inl rOd)), (q1, .inl (ca 0, 25, .inl ((fun _ => 0)))), (q2, .inl (ca 0, 25, .inl ((fun _ => 0)))), (q3, .inl (ca 0, 25, .inl ((fun _ => 0)))), (q4, .inl (ca 0, 25, .inl ((fun _ => 0)))), (q5, .inl (ca 0, 5, .inl ((fun _ => 0)))), (q6, .inl (ca 0, 5, .inl ((fun _ => 0))))]) H := hP
  have hD : va_D A ([(h0, .inr (1, [.ref q7, .ref q1, .ref q2, .ref q3, .ref q4, .ref q5, .ref q6, .int 0, .int 0])), (q7, .inr (2, [.ref q8, .ref q9, .ref q10, .ref q11])), (q8, .inl (ca 0, 25, .inl rTu)), (q9, .inl (ca 0, 25, .inl rTo)), (q10, .inl (ca 0, 24, .inl rEv)), (q11, .inl (ca 0, 24, .inl rOd)), (q1, .inl (ca 0, 25, .inl ((fun _ => 0)))), (q2, .inl (ca 0, 25, .inl ((fun _ => 0)))), (q3, .inl (ca 0, 25, .inl ((fun _ => 0)))), (q4, .inl (ca 0, 25, .inl ((fun _ => 0)))), (q5, .inl (ca 0, 5, .inl ((fun _ => 0)))), (q6, .inl (ca 0, 5, .inl ((fun _ => 0))))]) := hD
  have hP := hP.sub (ws' := wSp ca (fun k => [h0, q1, q2, q3, q4, q5, q6, q7, q8, q9, q10, q11].getD k 0) (fun _ => 0) (fun _ => 0) (fun _ => 0) (fun _ => 0) (fun _ => 0) (fun _ => 0) 0 0) [0, 6, 7, 8, 9, 10, 11, 1, 2, 3, 4, 5] rfl
  have hD := hD.sub (ws' := wSp ca (fun k => [h0, q1, q2, q3, q4, q5, q6, q7, q8, q9, q10, q11].getD k 0) (fun _ => 0) (fun _ => 0) (fun _ => 0) (fun _ => 0) (fun _ => 0) (fun _ => 0) 0 0) [0, 6, 7, 8, 9, 10, 11, 1, 2, 3, 4, 5] (by decide) rfl
  exact vend hx hb hr hlk (fun k => [h0, q1, q2, q3, q4, q5, q6, q7, q8, q9, q10, q11].getD k 0) rfl hP hK hD hS (Nat.le_of_ble_eq_true rfl) (Nat.le_of_ble_eq_true rfl) dX1_init_61
abbrev rmDb : Room := { frames := 1, cells := 0, slots := 0, locals := 22 }
abbrev rmBl : Room := { frames := 1, cells := 0, slots := 0, locals := 21 }
set_option maxHeartbeats 1000000 in
set_option maxRecDepth 100000 in
theorem m_dbegin (l : Launch) (D : va_G) (ca : Nat → ClassId) (h : Nat → Nat) (t1 t2 : Nat) (tx kp : Nat → Int32) (len kd fd gv kl cl : Int32) (e o me mo se so : Nat → Int32) (rt aa : Int32) (k : Int32) : MV l yX0_begin cX0_begin 2 rmDb D ca (dkX t1 t2) [.ref (h 12), .int k] (wDk ca h tx kp len kd fd gv kl cl e o me mo se so rt aa) (S := Unit) (fun _ => True) (fun _ => wDk ca h tx kp len (nI (cut k % 6)) (nI 0) (nI 0) (nI 0) (nI 0) (fun _ => 0) (fun _ => 0) me mo se so (nI (RT (cut k % 6))) (nI 0)) 0 0 := by
  refine MV.of (by decide) (Nat.le_of_ble_eq_true rfl) ?_
  intro p en s m below meth c A hx hb hr hml hlk hown hts hnm hA hP hK hD hS hX ls hl
  have hown : s.vm.findClass RX0 = some m.cls := hown
  have hl : lv_has ls 2 [(0, .ref (h 12)), (1, .int k)] := hl
  refine lv_aload_n hx hb dX0_begin_0 rfl (lv_at hl 0 rfl) ?_
  refine lv_iload_n hx hb dX0_begin_1 rfl (lv_at hl 1 rfl) ?_
  refine lv_bipush (v := nI 6) hx hb dX0_begin_2 (by decide) ?_
  refine cSi (As := [.int k, .int (nI 6)]) (rest := [.ref (h 12)]) ⟨hx, hb, hml, hown, hts⟩ (m_below l k 6 (by decide) (by decide)) (va_cwS 2 hts (lw_S q88 q89 q12 q90) rfl rfl rfl (by decide +kernel) ⟨Nat.le_of_ble_eq_true rfl, Nat.le_of_ble_eq_true rfl⟩) hP hS hA rfl hl.1 rfl (Nat.le_of_ble_eq_true rfl) dX0_begin_4 ⟨Nat.le_of_ble_eq_true rfl, Nat.le_of_ble_eq_true rfl⟩ (fun H locs hP hS => ?_)
  refine va_put (D := D) (ci := 0) (v := .int (nI (cut k % 6))) (ty := .int) (C := RX0) (T := TX0) (N := 9) hx hb hts in_X0 tyX0 tyX0_ok nmX0 hown hK hP hD hS 0 rfl rfl 4 (by decide) (hts _ q102) (fun _ h9 => h9) rfl (by decide +kernel) rfl rfl (Nat.le_of_ble_eq_true rfl) dX0_begin_7 (fun H locs hP hD hS => ?_)
  have hP : va_P D vwCl (wDk ca h tx kp len (nI (cut k % 6)) fd gv kl cl e o me mo se so rt aa) H := hP
  have hD : va_D A (wDk ca h tx kp len (nI (cut k % 6)) fd gv kl cl e o me mo se so rt aa) := hD
  refine lv_aload_n hx hb dX0_begin_10 rfl (lv_at hl 0 rfl) ?_
  refine va_get (D := D) (ci := 0) (v := .ref (h 0)) (C := RX0) (T := TX0) (N := 9) hx hb hts in_X0 hown hK hP 0 rfl rfl 2 (by decide) (hts _ q100) (fun _ h9 => h9) rfl dX0_begin_11 ?_
  refine va_gets (v := .ref t1) hx hb hX.1 hS hown (hts _ q92) (fun _ h9 => h9) dX0_begin_14 ?_
  refine lv_aload_n hx hb dX0_begin_17 rfl (lv_at hl 0 rfl) ?_
  refine va_get (D := D) (ci := 0) (v := .int (nI (cut k % 6))) (C := RX0) (T := TX0) (N := 9) hx hb hts in_X0 hown hK hP 0 rfl rfl 4 (by decide) (hts _ q102) (fun _ h9 => h9) rfl dX0_begin_18 ?_
  refine va_ti (v := .int (nI (RT (cut k % 6)))) hx hb hX.2.1 hS (vp_in_nI (by omega) (by decide)) (by rw [nI_clamp (by omega)]) dX0_begin_21 ?_
  refine cVv (wr := (wDk3 ca h tx kp len (nI (cut k % 6)) fd gv kl cl)) (As := [.int (nI (RT (cut k % 6)))]) (rest := []) ⟨hx, hb, hml, hown, hts⟩ (m_sbegin l D ca h e o me mo se so rt (nI (RT (cut k % 6))) aa) (cwV 1 hts (lw_V q94 q95 q96 q13 q97) rfl rfl rfl (by decide +kernel) ⟨Nat.le_of_ble_eq_true rfl, Nat.le_of_ble_eq_true rfl⟩) hK hP hD hS hA [3, 4, 5, 6, 7, 8, 9, 10, 11, 12, 13, 14] [0, 1, 2] rfl rfl (by decide) (by decide) (by decide) 0 1 rfl rfl rfl (fun _ _ _ _ _ _ => trivial) (fun _ _ _ => trivial) rfl hl.1 rfl (Nat.le_of_ble_eq_true rfl) dX0_begin_22 ⟨Nat.le_of_ble_eq_true rfl, Nat.le_of_ble_eq_true rfl⟩ (fun _ H locs hpo hP hD hS => ?_)
  have hP : va_P D vwCl (wDk ca h tx kp len (nI (cut k % 6)) fd gv kl cl (fun _ => 0) (fun _ => 0) me mo se so (nI (RT (cut k % 6))) (nI 0)) H := hP
  have hD : va_D A (wDk ca h tx kp len (nI (cut k % 6)) fd gv kl cl (fun _ => 0) (fun _ => 0) me mo se so (nI (RT (cut k % 6))) (nI 0)) := hD
  refine lv_aload_n hx hb dX0_begin_25 rfl (lv_at hl 0 rfl) ?_
  refine lv_iconst (v := nI 0) hx hb dX0_begin_26 (by decide) ?_
  refine va_put (D := D) (ci := 0) (v := .int (nI 0)) (ty := .int) (C := RX0) (T := TX0) (N := 9) hx hb hts in_X0 tyX0 tyX0_ok nmX0 hown hK hP hD hS 0 rfl rfl 5 (by decide) (hts _ q103) (fun _ h9 => h9) rfl (by decide +kernel) rfl rfl (Nat.le_of_ble_eq_true rfl) dX0_begin_27 (fun H locs hP hD hS => ?_)
  have hP : va_P D vwCl (wDk ca h tx kp len (nI (cut k % 6)) (nI 0) gv kl cl (fun _ => 0) (fun _ => 0) me mo se so (nI (RT (cut k % 6))) (nI 0)) H := hP
  have hD : va_D A (wDk ca h tx kp len (nI (cut k % 6)) (nI 0) gv kl cl (fun _ => 0) (fun _ => 0) me mo se so (nI (RT (cut k % 6))) (nI 0)) := hD
  refine lv_aload_n hx hb dX0_begin_30 rfl (lv_at hl 0 rfl) ?_
  refine lv_iconst (v := nI 0) hx hb dX0_begin_31 (by decide) ?_
  refine va_put (D := D) (ci := 0) (v := .int (nI 0)) (ty := .int) (C := RX0) (T := TX0) (N := 9) hx hb hts in_X0 tyX0 tyX0_ok nmX0 hown hK hP hD hS 0 rfl rfl 6 (by decide) (hts _ q104) (fun _ h9 => h9) rfl (by decide +kernel) rfl rfl (Nat.le_of_ble_eq_true rfl) dX0_begin_32 (fun H locs hP hD hS => ?_)
  have hP : va_P D vwCl (wDk ca h tx kp len (nI (cut k % 6)) (nI 0) (nI 0) kl cl (fun _ => 0) (fun _ => 0) me mo se so (nI (RT (cut k % 6))) (nI 0)) H := hP
  have hD : va_D A (wDk ca h tx kp len (nI (cut k % 6)) (nI 0) (nI 0) kl cl (fun _ => 0) (fun _ => 0) me mo se so (nI (RT (cut k % 6))) (nI 0)) := hD
  refine lv_aload_n hx hb dX0_begin_35 rfl (lv_at hl 0 rfl) ?_
  refine lv_iconst (v := nI 0) hx hb dX0_begin_36 (by decide) ?_
  refine va_put (D := D) (ci := 0) (v := .int (nI 0)) (ty := .boolean) (C := RX0) (T := TX0) (N := 9) hx hb hts in_X0 tyX0 tyX0_ok nmX0 hown hK hP hD hS 0 rfl rfl 8 (by decide) (hts _ q106) (fun _ h9 => h9) rfl (by decide +kernel) rfl rfl (Nat.le_of_ble_eq_true rfl) dX0_begin_37 (fun H locs hP hD hS => ?_)
  have hP : va_P D vwCl (wDk ca h tx kp len (nI (cut k % 6)) (nI 0) (nI 0) kl (nI 0) (fun _ => 0) (fun _ => 0) me mo se so (nI (RT (cut k % 6))) (nI 0)) H := hP
  have hD : va_D A (wDk ca h tx kp len (nI (cut k % 6)) (nI 0) (nI 0) kl (nI 0) (fun _ => 0) (fun _ => 0) me mo se so (nI (RT (cut k % 6))) (nI 0)) := hD
  refine lv_aload_n hx hb dX0_begin_40 rfl (lv_at hl 0 rfl) ?_
  refine lv_iconst (v := nI 0) hx hb dX0_begin_41 (by decide) ?_
  refine va_put (D := D) (ci := 0) (v := .int (nI 0)) (ty := .int) (C := RX0) (T := TX0) (N := 9) hx hb hts in_X0 tyX0 tyX0_ok nmX0 hown hK hP hD hS 0 rfl rfl 7 (by decide) (hts _ q105) (fun _ h9 => h9) rfl (by decide +kernel) rfl rfl (Nat.le_of_ble_eq_true rfl) dX0_begin_42 (fun H locs hP hD hS => ?_)
  have hP : va_P D vwCl (wDk ca h tx kp len (nI (cut k % 6)) (nI 0) (nI 0) (nI 0) (nI 0) (fun _ => 0) (fun _ => 0) me mo se so (nI (RT (cut k % 6))) (nI 0)) H := hP
  have hD : va_D A (wDk ca h tx kp len (nI (cut k % 6)) (nI 0) (nI 0) (nI 0) (nI 0) (fun _ => 0) (fun _ => 0) me mo se so (nI (RT (cut k % 6))) (nI 0)) := hD
  exact vend hx hb hr hlk () trivial hP hK hD hS (Nat.le_refl _) (Nat.le_refl _) dX0_begin_45
set_option maxHeartbeats 1000000 in
set_option maxRecDepth 100000 in
theorem m_dsize (l : Launch) (D : va_G) (ca : Nat → ClassId) (h : Nat → Nat) (tx kp : Nat → Int32) (len kd fd gv kl cl : Int32) (e o me mo se so : Nat → Int32) (rt aa : Int32) : MI l yX0_size cX0_size 1 .int rmz D ca noX [.ref (h 12)] (wDk ca h tx kp len kd fd gv kl cl e o me mo se so rt aa) (S := Unit) (fun v _ => v = len) (fun _ => wDk ca h tx kp len kd fd gv kl cl e o me mo se so rt aa) 0 0 := by
  refine MI.of (by decide) (Nat.le_of_ble_eq_true rfl) ?_
  intro p en s m below meth c A hx hb hr hml hlk hown hts hnm hA hP hK hD hS hX ls hl
  have hown : s.vm.findClass RX0 = some m.cls := hown
  have hl : lv_has ls 1 [(0, .ref (h 12))] := hl
  refine lv_aload_n hx hb dX0_size_0 rfl (lv_at hl 0 rfl) ?_
  refine va_get (D := D) (ci := 0) (v := .int len) (C := RX0) (T := TX0) (N := 9) hx hb hts in_X0 hown hK hP 0 rfl rfl 3 (by decide) (hts _ q101) (fun _ h9 => h9) rfl dX0_size_1 ?_
  exact iend hx hb hr hlk () rfl hP hK hD hS (Nat.le_refl _) (Nat.le_refl _) dX0_size_4
set_option maxHeartbeats 1000000 in
set_option maxRecDepth 100000 in
theorem m_dtrim (l : Launch) (D : va_G) (ca : Nat → ClassId) (h : Nat → Nat) (tx kp : Nat → Int32) (kd fd gv kl cl : Int32) (e o me mo se so : Nat → Int32) (rt aa : Int32) (ln : Nat) (hln : ln ≤ 4096) (k : Int32) : MV l yX0_trim cX0_trim 2 rmBl D ca noX [.ref (h 12), .int k] (wDk ca h tx kp (nI ln) kd fd gv kl cl e o me mo se so rt aa) (S := Unit) (fun _ => True) (fun _ => wDk ca h tx kp (nI (cut k % (ln + 1))) kd fd gv kl cl e o me mo se so rt aa) 0 0 := by
  refine MV.of (by decide) (Nat.le_of_ble_eq_true rfl) ?_
  intro p en s m below meth c A hx hb hr hml hlk hown hts hnm hA hP hK hD hS hX ls hl
  have hown : s.vm.findClass RX0 = some m.cls := hown
  have hl : lv_has ls 2 [(0, .ref (h 12)), (1, .int k)] := hl
  refine lv_aload_n hx hb dX0_trim_0 rfl (lv_at hl 0 rfl) ?_
  refine lv_iload_n hx hb dX0_trim_1 rfl (lv_at hl 1 rfl) ?_
  refine lv_aload_n hx hb dX0_trim_2 rfl (lv_at hl 0 rfl) ?_
  refine va_get (D := D) (ci := 0) (v := .int (nI ln)) (C := RX0) (T := TX0) (N := 9) hx hb hts in_X0 hown hK hP 0 rfl rfl 3 (by decide) (hts _ q101) (fun _ h9 => h9) rfl dX0_trim_3 ?_
  refine lv_iconst (v := nI 1) hx hb dX0_trim_6 (by decide) ?_
  refine n_add hx hb dX0_trim_7 ?_
  refine cSi (As := [.int k, .int (nI (ln + 1))]) (rest := [.ref (h 12)]) ⟨hx, hb, hml, hown, hts⟩ (m_below l k (ln + 1) (by omega) (by omega)) (va_cwS 2 hts (lw_S q88 q89 q12 q90) rfl rfl rfl (by decide +kernel) ⟨Nat.le_of_ble_eq_true rfl, Nat.le_of_ble_eq_true rfl⟩) hP hS hA rfl hl.1 rfl (Nat.le_of_ble_eq_true rfl) dX0_trim_8 ⟨Nat.le_of_ble_eq_true rfl, Nat.le_of_ble_eq_true rfl⟩ (fun H locs hP hS => ?_)
  refine va_put (D := D) (ci := 0) (v := .int (nI (cut k % (ln + 1)))) (ty := .int) (C := RX0) (T := TX0) (N := 9) hx hb hts in_X0 tyX0 tyX0_ok nmX0 hown hK hP hD hS 0 rfl rfl 3 (by decide) (hts _ q101) (fun _ h9 => h9) rfl (by decide +kernel) rfl rfl (Nat.le_of_ble_eq_true rfl) dX0_trim_11 (fun H locs hP hD hS => ?_)
  have hP : va_P D vwCl (wDk ca h tx kp (nI (cut k % (ln + 1))) kd fd gv kl cl e o me mo se so rt aa) H := hP
  have hD : va_D A (wDk ca h tx kp (nI (cut k % (ln + 1))) kd fd gv kl cl e o me mo se so rt aa) := hD
  exact vend hx hb hr hlk () trivial hP hK hD hS (Nat.le_refl _) (Nat.le_refl _) dX0_trim_14
set_option maxHeartbeats 1000000 in
set_option maxRecDepth 100000 in
theorem m_add (l : Launch) (D : va_G) (ca : Nat → ClassId) (h : Nat → Nat) (tx kp : Nat → Int32) (kd fd gv kl cl : Int32) (e o me mo se so : Nat → Int32) (rt aa : Int32) (ln : Nat) (hln : ln + 4 ≤ 4096) (b : Int32) : MV l yX0_add cX0_add 3 rmz D ca noX [.ref (h 12), .int b] (wDk ca h tx kp (nI ln) kd fd gv kl cl e o me mo se so rt aa) (S := Unit) (fun _ => True) (fun _ => wDk ca h (add4 tx ln b) kp (nI (ln + 1 + 1 + 1 + 1)) kd fd gv kl cl e o me mo se so rt aa) 0 0 := by
  refine MV.of (by decide) (Nat.le_of_ble_eq_true rfl) ?_
  intro p en s m below meth c A hx hb hr hml hlk hown hts hnm hA hP hK hD hS hX ls hl
  have hown : s.vm.findClass RX0 = some m.cls := hown
  have hl : lv_has ls 3 [(0, .ref (h 12)), (1, .int b)] := hl
  refine lv_bipush (v := nI 24) hx hb dX0_add_0 (by decide) ?_
  refine lv_istore_n (lv' := [(2, .int (nI 24)), (0, .ref (h 12)), (1, .int b)]) hx hb dX0_add_2 rfl hl (by decide) rfl (fun ls hl => ?_)
  refine lv_iload_n hx hb dX0_add_3 rfl (lv_at hl 0 rfl) ?_
  refine lv_if_lt (tgt := 33) hx hb dX0_add_4 (by decide) (fun hc => ?_) (fun hc => ?_)
  ·
    exact absurd hc (by decide)
  ·
    refine lv_aload_n hx hb dX0_add_7 rfl (lv_at hl 1 rfl) ?_
    refine va_get (D := D) (ci := 0) (v := .ref (h 13)) (C := RX0) (T := TX0) (N := 9) hx hb hts in_X0 hown hK hP 0 rfl rfl 0 (by decide) (hts _ q98) (fun _ h9 => h9) rfl dX0_add_8 ?_
    refine lv_aload_n hx hb dX0_add_11 rfl (lv_at hl 1 rfl) ?_
    refine lv_dup hx hb dX0_add_12 rfl ?_
    refine va_get (D := D) (ci := 0) (v := .int (nI ln)) (C := RX0) (T := TX0) (N := 9) hx hb hts in_X0 hown hK hP 0 rfl rfl 3 (by decide) (hts _ q101) (fun _ h9 => h9) rfl dX0_add_13 ?_
    refine lv_dup_x1 hx hb dX0_add_16 rfl rfl ?_
    refine lv_iconst (v := nI 1) hx hb dX0_add_17 (by decide) ?_
    refine n_add hx hb dX0_add_18 ?_
    refine va_put (D := D) (ci := 0) (v := .int (nI (ln + 1))) (ty := .int) (C := RX0) (T := TX0) (N := 9) hx hb hts in_X0 tyX0 tyX0_ok nmX0 hown hK hP hD hS 0 rfl rfl 3 (by decide) (hts _ q101) (fun _ h9 => h9) rfl (by decide +kernel) rfl rfl (Nat.le_of_ble_eq_true rfl) dX0_add_19 (fun H locs hP hD hS => ?_)
    have hP : va_P D vwCl (wDk ca h tx kp (nI (ln + 1)) kd fd gv kl cl e o me mo se so rt aa) H := hP
    have hD : va_D A (wDk ca h tx kp (nI (ln + 1)) kd fd gv kl cl e o me mo se so rt aa) := hD
    refine lv_iload_n hx hb dX0_add_22 rfl (lv_at hl 2 rfl) ?_
    refine lv_iload_n hx hb dX0_add_23 rfl (lv_at hl 0 rfl) ?_
    refine lv_ishr hx hb dX0_add_24 ?_
    refine lv_i2b hx hb dX0_add_25 rfl ?_
    refine n_bast (ws' := wDk ca h (upd tx ln (byt b 24)) kp (nI (ln + 1)) kd fd gv kl cl e o me mo se so rt aa) hx hb hK hP hD hS 1 1 (upd tx ln (byt b 24)) rfl rfl (by omega) (by decide) (fun _ _ => rfl) rfl dX0_add_26 (fun H locs hP hD hS => ?_)
    refine lv_iinc (v := nI 16) (lv' := [(2, .int (nI 16)), (0, .ref (h 12)), (1, .int b)]) hx hb dX0_add_27 hl (k := 0) rfl (by decide) (by decide) rfl (fun ls hl => ?_)
    refine lv_goto (tgt := 3) hx hb dX0_add_30 (by decide) ?_
    refine lv_iload_n hx hb dX0_add_3 rfl (lv_at hl 0 rfl) ?_
    refine lv_if_lt (tgt := 33) hx hb dX0_add_4 (by decide) (fun hc => ?_) (fun hc => ?_)
    ·
      exact absurd hc (by decide)
    ·
      refine lv_aload_n hx hb dX0_add_7 rfl (lv_at hl 1 rfl) ?_
      refine va_get (D := D) (ci := 0) (v := .ref (h 13)) (C := RX0) (T := TX0) (N := 9) hx hb hts in_X0 hown hK hP 0 rfl rfl 0 (by decide) (hts _ q98) (fun _ h9 => h9) rfl dX0_add_8 ?_
      refine lv_aload_n hx hb dX0_add_11 rfl (lv_at hl 1 rfl) ?_
      refine lv_dup hx hb dX0_add_12 rfl ?_
      refine va_get (D := D) (ci := 0) (v := .int (nI (ln + 1))) (C := RX0) (T := TX0) (N := 9) hx hb hts in_X0 hown hK hP 0 rfl rfl 3 (by decide) (hts _ q101) (fun _ h9 => h9) rfl dX0_add_13 ?_
      refine lv_dup_x1 hx hb dX0_add_16 rfl rfl ?_
      refine lv_iconst (v := nI 1) hx hb dX0_add_17 (by decide) ?_
      refine n_add hx hb dX0_add_18 ?_
      refine va_put (D := D) (ci := 0) (v := .int (nI ((ln + 1) + 1))) (ty := .int) (C := RX0) (T := TX0) (N := 9) hx hb hts in_X0 tyX0 tyX0_ok nmX0 hown hK hP hD hS 0 rfl rfl 3 (by decide) (hts _ q101) (fun _ h9 => h9) rfl (by decide +kernel) rfl rfl (Nat.le_of_ble_eq_true rfl) dX0_add_19 (fun H locs hP hD hS => ?_)
      have hP : va_P D vwCl (wDk ca h (upd tx ln (byt b 24)) kp (nI ((ln + 1) + 1)) kd fd gv kl cl e o me mo se so rt aa) H := hP
      have hD : va_D A (wDk ca h (upd tx ln (byt b 24)) kp (nI ((ln + 1) + 1)) kd fd gv kl cl e o me mo se so rt aa) := hD
      refine lv_iload_n hx hb dX0_add_22 rfl (lv_at hl 2 rfl) ?_
      refine lv_iload_n hx hb dX0_add_23 rfl (lv_at hl 0 rfl) ?_
      refine lv_ishr hx hb dX0_add_24 ?_
      refine lv_i2b hx hb dX0_add_25 rfl ?_
      refine n_bast (ws' := wDk ca h (upd (upd tx ln (byt b 24)) (ln + 1) (byt b 16)) kp (nI ((ln + 1) + 1)) kd fd gv kl cl e o me mo se so rt aa) hx hb hK hP hD hS 1 1 (upd (upd tx ln (byt b 24)) (ln + 1) (byt b 16)) rfl rfl (by omega) (by decide) (fun _ _ => rfl) rfl dX0_add_26 (fun H locs hP hD hS => ?_)
      refine lv_iinc (v := nI 8) (lv' := [(2, .int (nI 8)), (0, .ref (h 12)), (1, .int b)]) hx hb dX0_add_27 hl (k := 0) rfl (by decide) (by decide) rfl (fun ls hl => ?_)
      refine lv_goto (tgt := 3) hx hb dX0_add_30 (by decide) ?_
      refine lv_iload_n hx hb dX0_add_3 rfl (lv_at hl 0 rfl) ?_
      refine lv_if_lt (tgt := 33) hx hb dX0_add_4 (by decide) (fun hc => ?_) (fun hc => ?_)
      ·
        exact absurd hc (by decide)
      ·
        refine lv_aload_n hx hb dX0_add_7 rfl (lv_at hl 1 rfl) ?_
        refine va_get (D := D) (ci := 0) (v := .ref (h 13)) (C := RX0) (T := TX0) (N := 9) hx hb hts in_X0 hown hK hP 0 rfl rfl 0 (by decide) (hts _ q98) (fun _ h9 => h9) rfl dX0_add_8 ?_
        refine lv_aload_n hx hb dX0_add_11 rfl (lv_at hl 1 rfl) ?_
        refine lv_dup hx hb dX0_add_12 rfl ?_
        refine va_get (D := D) (ci := 0) (v := .int (nI ((ln + 1) + 1))) (C := RX0) (T := TX0) (N := 9) hx hb hts in_X0 hown hK hP 0 rfl rfl 3 (by decide) (hts _ q101) (fun _ h9 => h9) rfl dX0_add_13 ?_
        refine lv_dup_x1 hx hb dX0_add_16 rfl rfl ?_
        refine lv_iconst (v := nI 1) hx hb dX0_add_17 (by decide) ?_
        refine n_add hx hb dX0_add_18 ?_
        refine va_put (D := D) (ci := 0) (v := .int (nI (((ln + 1) + 1) + 1))) (ty := .int) (C := RX0) (T := TX0) (N := 9) hx hb hts in_X0 tyX0 tyX0_ok nmX0 hown hK hP hD hS 0 rfl rfl 3 (by decide) (hts _ q101) (fun _ h9 => h9) rfl (by decide +kernel) rfl rfl (Nat.le_of_ble_eq_true rfl) dX0_add_19 (fun H locs hP hD hS => ?_)
        have hP : va_P D vwCl (wDk ca h (upd (upd tx ln (byt b 24)) (ln + 1) (byt b 16)) kp (nI (((ln + 1) + 1) + 1)) kd fd gv kl cl e o me mo se so rt aa) H := hP
        have hD : va_D A (wDk ca h (upd (upd tx ln (byt b 24)) (ln + 1) (byt b 16)) kp (nI (((ln + 1) + 1) + 1)) kd fd gv kl cl e o me mo se so rt aa) := hD
        refine lv_iload_n hx hb dX0_add_22 rfl (lv_at hl 2 rfl) ?_
        refine lv_iload_n hx hb dX0_add_23 rfl (lv_at hl 0 rfl) ?_
        refine lv_ishr hx hb dX0_add_24 ?_
        refine lv_i2b hx hb dX0_add_25 rfl ?_
        refine n_bast (ws' := wDk ca h (upd (upd (upd tx ln (byt b 24)) (ln + 1) (byt b 16)) ((ln + 1) + 1) (byt b 8)) kp (nI (((ln + 1) + 1) + 1)) kd fd gv kl cl e o me mo se so rt aa) hx hb hK hP hD hS 1 1 (upd (upd (upd tx ln (byt b 24)) (ln + 1) (byt b 16)) ((ln + 1) + 1) (byt b 8)) rfl rfl (by omega) (by decide) (fun _ _ => rfl) rfl dX0_add_26 (fun H locs hP hD hS => ?_)
        refine lv_iinc (v := nI 0) (lv' := [(2, .int (nI 0)), (0, .ref (h 12)), (1, .int b)]) hx hb dX0_add_27 hl (k := 0) rfl (by decide) (by decide) rfl (fun ls hl => ?_)
        refine lv_goto (tgt := 3) hx hb dX0_add_30 (by decide) ?_
        refine lv_iload_n hx hb dX0_add_3 rfl (lv_at hl 0 rfl) ?_
        refine lv_if_lt (tgt := 33) hx hb dX0_add_4 (by decide) (fun hc => ?_) (fun hc => ?_)
        ·
          exact absurd hc (by decide)
        ·
          refine lv_aload_n hx hb dX0_add_7 rfl (lv_at hl 1 rfl) ?_
          refine va_get (D := D) (ci := 0) (v := .ref (h 13)) (C := RX0) (T := TX0) (N := 9) hx hb hts in_X0 hown hK hP 0 rfl rfl 0 (by decide) (hts _ q98) (fun _ h9 => h9) rfl dX0_add_8 ?_
          refine lv_aload_n hx hb dX0_add_11 rfl (lv_at hl 1 rfl) ?_
          refine lv_dup hx hb dX0_add_12 rfl ?_
          refine va_get (D := D) (ci := 0) (v := .int (nI (((ln + 1) + 1) + 1))) (C := RX0) (T := TX0) (N := 9) hx hb hts in_X0 hown hK hP 0 rfl rfl 3 (by decide) (hts _ q101) (fun _ h9 => h9) rfl dX0_add_13 ?_
          refine lv_dup_x1 hx hb dX0_add_16 rfl rfl ?_
          refine lv_iconst (v := nI 1) hx hb dX0_add_17 (by decide) ?_
          refine n_add hx hb dX0_add_18 ?_
          refine va_put (D := D) (ci := 0) (v := .int (nI ((((ln + 1) + 1) + 1) + 1))) (ty := .int) (C := RX0) (T := TX0) (N := 9) hx hb hts in_X0 tyX0 tyX0_ok nmX0 hown hK hP hD hS 0 rfl rfl 3 (by decide) (hts _ q101) (fun _ h9 => h9) rfl (by decide +kernel) rfl rfl (Nat.le_of_ble_eq_true rfl) dX0_add_19 (fun H locs hP hD hS => ?_)
          have hP : va_P D vwCl (wDk ca h (upd (upd (upd tx ln (byt b 24)) (ln + 1) (byt b 16)) ((ln + 1) + 1) (byt b 8)) kp (nI ((((ln + 1) + 1) + 1) + 1)) kd fd gv kl cl e o me mo se so rt aa) H := hP
          have hD : va_D A (wDk ca h (upd (upd (upd tx ln (byt b 24)) (ln + 1) (byt b 16)) ((ln + 1) + 1) (byt b 8)) kp (nI ((((ln + 1) + 1) + 1) + 1)) kd fd gv kl cl e o me mo se so rt aa) := hD
          refine lv_iload_n hx hb dX0_add_22 rfl (lv_at hl 2 rfl) ?_
          refine lv_iload_n hx hb dX0_add_23 rfl (lv_at hl 0 rfl) ?_
          refine lv_ishr hx hb dX0_add_24 ?_
          refine lv_i2b hx hb dX0_add_25 rfl ?_
          refine n_bast (ws' := wDk ca h (upd (upd (upd (upd tx ln (byt b 24)) (ln + 1) (byt b 16)) ((ln + 1) + 1) (byt b 8)) (((ln + 1) + 1) + 1) (byt b 0)) kp (nI ((((ln + 1) + 1) + 1) + 1)) kd fd gv kl cl e o me mo se so rt aa) hx hb hK hP hD hS 1 1 (upd (upd (upd (upd tx ln (byt b 24)) (ln + 1) (byt b 16)) ((ln + 1) + 1) (byt b 8)) (((ln + 1) + 1) + 1) (byt b 0)) rfl rfl (by omega) (by decide) (fun _ _ => rfl) rfl dX0_add_26 (fun H locs hP hD hS => ?_)
          refine lv_iinc (v := (-8)) (lv' := [(2, .int ((-8))), (0, .ref (h 12)), (1, .int b)]) hx hb dX0_add_27 hl (k := 0) rfl (by decide) (by decide) rfl (fun ls hl => ?_)
          refine lv_goto (tgt := 3) hx hb dX0_add_30 (by decide) ?_
          refine lv_iload_n hx hb dX0_add_3 rfl (lv_at hl 0 rfl) ?_
          refine lv_if_lt (tgt := 33) hx hb dX0_add_4 (by decide) (fun hc => ?_) (fun hc => ?_)
          ·
            exact vend hx hb hr hlk () trivial hP hK hD hS (Nat.le_refl _) (Nat.le_refl _) dX0_add_33
          ·
            exact absurd (by decide) hc
abbrev rmPu : Room := { frames := 1, cells := 0, slots := 0, locals := 22 }
set_option maxHeartbeats 1000000 in
set_option maxRecDepth 100000 in
theorem m_dput_no (l : Launch) (D : va_G) (ca : Nat → ClassId) (h : Nat → Nat) (tx kp : Nat → Int32) (kd fd gv kl cl : Int32) (e o me mo se so : Nat → Int32) (rt aa : Int32) (ln : Nat) (hln : ln ≤ 4096) (h16 : 4080 < ln) (b1 b2 b3 b4 : Int32) : MI l yX0_put cX0_put 5 .boolean rmPu D ca noX [.ref (h 12), .int b1, .int b2, .int b3, .int b4] (wDk ca h tx kp (nI ln) kd fd gv kl cl e o me mo se so rt aa) (S := Unit) (fun v _ => v = nI 0) (fun _ => wDk ca h tx kp (nI ln) kd fd gv kl cl e o me mo se so rt aa) 0 0 := by
  refine MI.of (by decide) (Nat.le_of_ble_eq_true rfl) ?_
  intro p en s m below meth c A hx hb hr hml hlk hown hts hnm hA hP hK hD hS hX ls hl
  have hown : s.vm.findClass RX0 = some m.cls := hown
  have hl : lv_has ls 5 [(0, .ref (h 12)), (1, .int b1), (2, .int b2), (3, .int b3), (4, .int b4)] := hl
  refine lv_aload_n hx hb dX0_put_0 rfl (lv_at hl 0 rfl) ?_
  refine va_get (D := D) (ci := 0) (v := .int (nI ln)) (C := RX0) (T := TX0) (N := 9) hx hb hts in_X0 hown hK hP 0 rfl rfl 3 (by decide) (hts _ q101) (fun _ h9 => h9) rfl dX0_put_1 ?_
  refine lv_sipush (v := nI 4080) hx hb dX0_put_4 (by decide) ?_
  refine n_le (tgt := 12) hx hb (by omega) (by omega) dX0_put_7 (by decide) (fun hc => ?_) (fun hc => ?_)
  ·
    omega
  ·
    refine lv_iconst (v := nI 0) hx hb dX0_put_10 (by decide) ?_
    exact zend hx hb hr rfl hlk () rfl hP hK hD hS (Nat.le_refl _) (Nat.le_refl _) dX0_put_11
set_option maxHeartbeats 1000000 in
set_option maxRecDepth 100000 in
theorem m_dput (l : Launch) (D : va_G) (ca : Nat → ClassId) (h : Nat → Nat) (tx kp : Nat → Int32) (kd fd gv kl cl : Int32) (e o me mo se so : Nat → Int32) (rt aa : Int32) (ln : Nat) (h16 : ln ≤ 4080) (b1 b2 b3 b4 : Int32) : MI l yX0_put cX0_put 5 .boolean rmPu D ca noX [.ref (h 12), .int b1, .int b2, .int b3, .int b4] (wDk ca h tx kp (nI ln) kd fd gv kl cl e o me mo se so rt aa) (S := Unit) (fun v _ => v = nI 1) (fun _ => wDk ca h (putT tx ln b1 b2 b3 b4) kp (nI (ln + 16)) kd fd gv kl cl e o me mo se so rt aa) 0 0 := by
  refine MI.of (by decide) (Nat.le_of_ble_eq_true rfl) ?_
  intro p en s m below meth c A hx hb hr hml hlk hown hts hnm hA hP hK hD hS hX ls hl
  have hown : s.vm.findClass RX0 = some m.cls := hown
  have hl : lv_has ls 5 [(0, .ref (h 12)), (1, .int b1), (2, .int b2), (3, .int b3), (4, .int b4)] := hl
  refine lv_aload_n hx hb dX0_put_0 rfl (lv_at hl 0 rfl) ?_
  refine va_get (D := D) (ci := 0) (v := .int (nI ln)) (C := RX0) (T := TX0) (N := 9) hx hb hts in_X0 hown hK hP 0 rfl rfl 3 (by decide) (hts _ q101) (fun _ h9 => h9) rfl dX0_put_1 ?_
  refine lv_sipush (v := nI 4080) hx hb dX0_put_4 (by decide) ?_
  refine n_le (tgt := 12) hx hb (by omega) (by omega) dX0_put_7 (by decide) (fun hc => ?_) (fun hc => ?_)
  ·
    refine lv_aload_n hx hb dX0_put_12 rfl (lv_at hl 0 rfl) ?_
    refine lv_iload_n hx hb dX0_put_13 rfl (lv_at hl 1 rfl) ?_
    refine cVv (wr := []) (As := [.int b1]) (rest := []) ⟨hx, hb, hml, hown, hts⟩ (m_add l D ca h tx kp kd fd gv kl cl e o me mo se so rt aa ln (by omega) b1) (cwV 1 hts (lw_V q130 q132 qs0 q12 q133) rfl rfl rfl (by decide +kernel) ⟨Nat.le_of_ble_eq_true rfl, Nat.le_of_ble_eq_true rfl⟩) hK hP hD hS hA [0, 1, 2, 3, 4, 5, 6, 7, 8, 9, 10, 11, 12, 13, 14] [] rfl rfl (by decide) (by decide) (by decide) 0 0 rfl rfl rfl (fun _ _ _ _ _ _ => trivial) (fun _ _ _ => trivial) rfl hl.1 rfl (Nat.le_of_ble_eq_true rfl) dX0_put_14 ⟨Nat.le_of_ble_eq_true rfl, Nat.le_of_ble_eq_true rfl⟩ (fun _ H locs hpo hP hD hS => ?_)
    have hP : va_P D vwCl (wDk ca h (add4 tx ln b1) kp (nI (ln + 1 + 1 + 1 + 1)) kd fd gv kl cl e o me mo se so rt aa) H := hP
    have hD : va_D A (wDk ca h (add4 tx ln b1) kp (nI (ln + 1 + 1 + 1 + 1)) kd fd gv kl cl e o me mo se so rt aa) := hD
    refine lv_aload_n hx hb dX0_put_17 rfl (lv_at hl 0 rfl) ?_
    refine lv_iload_n hx hb dX0_put_18 rfl (lv_at hl 2 rfl) ?_
    refine cVv (wr := []) (As := [.int b2]) (rest := []) ⟨hx, hb, hml, hown, hts⟩ (m_add l D ca h (add4 tx ln b1) kp kd fd gv kl cl e o me mo se so rt aa (ln + 1 + 1 + 1 + 1) (by omega) b2) (cwV 1 hts (lw_V q130 q132 qs0 q12 q133) rfl rfl rfl (by decide +kernel) ⟨Nat.le_of_ble_eq_true rfl, Nat.le_of_ble_eq_true rfl⟩) hK hP hD hS hA [0, 1, 2, 3, 4, 5, 6, 7, 8, 9, 10, 11, 12, 13, 14] [] rfl rfl (by decide) (by decide) (by decide) 0 0 rfl rfl rfl (fun _ _ _ _ _ _ => trivial) (fun _ _ _ => trivial) rfl hl.1 rfl (Nat.le_of_ble_eq_true rfl) dX0_put_19 ⟨Nat.le_of_ble_eq_true rfl, Nat.le_of_ble_eq_true rfl⟩ (fun _ H locs hpo hP hD hS => ?_)
    have hP : va_P D vwCl (wDk ca h (add4 (add4 tx ln b1) (ln + 1 + 1 + 1 + 1) b2) kp (nI (ln + 1 + 1 + 1 + 1 + 1 + 1 + 1 + 1)) kd fd gv kl cl e o me mo se so rt aa) H := hP
    have hD : va_D A (wDk ca h (add4 (add4 tx ln b1) (ln + 1 + 1 + 1 + 1) b2) kp (nI (ln + 1 + 1 + 1 + 1 + 1 + 1 + 1 + 1)) kd fd gv kl cl e o me mo se so rt aa) := hD
    refine lv_aload_n hx hb dX0_put_22 rfl (lv_at hl 0 rfl) ?_
    refine lv_iload_n hx hb dX0_put_23 rfl (lv_at hl 3 rfl) ?_
    refine cVv (wr := []) (As := [.int b3]) (rest := []) ⟨hx, hb, hml, hown, hts⟩ (m_add l D ca h (add4 (add4 tx ln b1) (ln + 1 + 1 + 1 + 1) b2) kp kd fd gv kl cl e o me mo se so rt aa (ln + 1 + 1 + 1 + 1 + 1 + 1 + 1 + 1) (by omega) b3) (cwV 1 hts (lw_V q130 q132 qs0 q12 q133) rfl rfl rfl (by decide +kernel) ⟨Nat.le_of_ble_eq_true rfl, Nat.le_of_ble_eq_true rfl⟩) hK hP hD hS hA [0, 1, 2, 3, 4, 5, 6, 7, 8, 9, 10, 11, 12, 13, 14] [] rfl rfl (by decide) (by decide) (by decide) 0 0 rfl rfl rfl (fun _ _ _ _ _ _ => trivial) (fun _ _ _ => trivial) rfl hl.1 rfl (Nat.le_of_ble_eq_true rfl) dX0_put_24 ⟨Nat.le_of_ble_eq_true rfl, Nat.le_of_ble_eq_true rfl⟩ (fun _ H locs hpo hP hD hS => ?_)
    have hP : va_P D vwCl (wDk ca h (add4 (add4 (add4 tx ln b1) (ln + 1 + 1 + 1 + 1) b2) (ln + 1 + 1 + 1 + 1 + 1 + 1 + 1 + 1) b3) kp (nI (ln + 1 + 1 + 1 + 1 + 1 + 1 + 1 + 1 + 1 + 1 + 1 + 1)) kd fd gv kl cl e o me mo se so rt aa) H := hP
    have hD : va_D A (wDk ca h (add4 (add4 (add4 tx ln b1) (ln + 1 + 1 + 1 + 1) b2) (ln + 1 + 1 + 1 + 1 + 1 + 1 + 1 + 1) b3) kp (nI (ln + 1 + 1 + 1 + 1 + 1 + 1 + 1 + 1 + 1 + 1 + 1 + 1)) kd fd gv kl cl e o me mo se so rt aa) := hD
    refine lv_aload_n hx hb dX0_put_27 rfl (lv_at hl 0 rfl) ?_
    refine lv_iload hx hb dX0_put_28 (lv_at hl 4 rfl) ?_
    refine cVv (wr := []) (As := [.int b4]) (rest := []) ⟨hx, hb, hml, hown, hts⟩ (m_add l D ca h (add4 (add4 (add4 tx ln b1) (ln + 1 + 1 + 1 + 1) b2) (ln + 1 + 1 + 1 + 1 + 1 + 1 + 1 + 1) b3) kp kd fd gv kl cl e o me mo se so rt aa (ln + 1 + 1 + 1 + 1 + 1 + 1 + 1 + 1 + 1 + 1 + 1 + 1) (by omega) b4) (cwV 1 hts (lw_V q130 q132 qs0 q12 q133) rfl rfl rfl (by decide +kernel) ⟨Nat.le_of_ble_eq_true rfl, Nat.le_of_ble_eq_true rfl⟩) hK hP hD hS hA [0, 1, 2, 3, 4, 5, 6, 7, 8, 9, 10, 11, 12, 13, 14] [] rfl rfl (by decide) (by decide) (by decide) 0 0 rfl rfl rfl (fun _ _ _ _ _ _ => trivial) (fun _ _ _ => trivial) rfl hl.1 rfl (Nat.le_of_ble_eq_true rfl) dX0_put_30 ⟨Nat.le_of_ble_eq_true rfl, Nat.le_of_ble_eq_true rfl⟩ (fun _ H locs hpo hP hD hS => ?_)
    have hP : va_P D vwCl (wDk ca h (add4 (add4 (add4 (add4 tx ln b1) (ln + 1 + 1 + 1 + 1) b2) (ln + 1 + 1 + 1 + 1 + 1 + 1 + 1 + 1) b3) (ln + 1 + 1 + 1 + 1 + 1 + 1 + 1 + 1 + 1 + 1 + 1 + 1) b4) kp (nI (ln + 1 + 1 + 1 + 1 + 1 + 1 + 1 + 1 + 1 + 1 + 1 + 1 + 1 + 1 + 1 + 1)) kd fd gv kl cl e o me mo se so rt aa) H := hP
    have hD : va_D A (wDk ca h (add4 (add4 (add4 (add4 tx ln b1) (ln + 1 + 1 + 1 + 1) b2) (ln + 1 + 1 + 1 + 1 + 1 + 1 + 1 + 1) b3) (ln + 1 + 1 + 1 + 1 + 1 + 1 + 1 + 1 + 1 + 1 + 1 + 1) b4) kp (nI (ln + 1 + 1 + 1 + 1 + 1 + 1 + 1 + 1 + 1 + 1 + 1 + 1 + 1 + 1 + 1 + 1)) kd fd gv kl cl e o me mo se so rt aa) := hD
    refine lv_iconst (v := nI 1) hx hb dX0_put_33 (by decide) ?_
    exact zend hx hb hr rfl hlk () rfl hP hK hD hS (Nat.le_refl _) (Nat.le_refl _) dX0_put_34
  ·
    omega
end
section
/-! the desk: feed, answer -/
abbrev rmFd : Room := { frames := 4, cells := 0, slots := 0, locals := 88 }
abbrev rmCl : Room := { frames := 4, cells := 0, slots := 0, locals := 89 }
section DK1
variable {p : Program} {l : Launch} {en : Env} {s : State} {m : MethodId} {args : Array Value} {below : List Frame} {meth : Method} {c : Code} {Q : State → Prop} {D : va_G} {ca : Nat → ClassId} {A : Nat → Prop} {h : Nat → Nat}
set_option maxHeartbeats 1000000 in
set_option maxRecDepth 100000 in
theorem fee_lp (tx kp : Nat → Int32) (kd gv kl cl : Int32) (ln f fr mn r : Nat) (ft : Nat → Int32) (hr1 : 0 < r) (hr0 : r < 200) (hln : ln ≤ 4096) (hfm : fr + mn ≤ ln) (hft : ∀ i, i < mn → ft (f + i) &&& nI 255 = tx (fr + i) &&& nI 255) (F : Fix p m c cX0_feed 6 s args RX0 A D ca)
    (K : ∀ (e o me mo se so : Nat → Int32) (H : Heap) (locs : List Loc) (ls : Array Slot), Rel (absL r ft (f + mn)) e o → Sta D A s (wDk ca h tx kp (nI ln) kd (nI f) gv kl cl e o me mo se so (nI r) (nI ((f + mn) % r))) H locs → lv_has ls 6 [(5, .int (nI (fr + mn))), (4, .int (nI mn)), (3, .int (nI fr)), (0, .ref (h 12))] → W p l en rmFd s m args below meth c H locs 0 0 Q (F0 m 83 ls [])) :
    ∀ (n x : Nat), x ≤ mn → mn + 1 ≤ x + n → ∀ (e o me mo se so : Nat → Int32) (H : Heap) (locs : List Loc) (ls : Array Slot), Rel (absL r ft (f + x)) e o → Sta D A s (wDk ca h tx kp (nI ln) kd (nI f) gv kl cl e o me mo se so (nI r) (nI ((f + x) % r))) H locs → lv_has ls 6 [(5, .int (nI (fr + x))), (4, .int (nI mn)), (3, .int (nI fr)), (0, .ref (h 12))] → W p l en rmFd s m args below meth c H locs 0 0 Q (F0 m 50 ls []) := by
  obtain ⟨hx, hb, hml, hown, hts, hA, hK⟩ := F
  intro n
  induction n with
  | zero => intro x h1 h2; omega
  | succ n ih =>
    intro x hi hn e o me mo se so H locs ls hrel hst hl
    obtain ⟨hP, hD, hS⟩ := hst
    refine lv_iload hx hb dX0_feed_50 (lv_at hl 0 rfl) ?_
    refine lv_iload_n hx hb dX0_feed_52 rfl (lv_at hl 2 rfl) ?_
    refine lv_iload hx hb dX0_feed_53 (lv_at hl 1 rfl) ?_
    refine n_add hx hb dX0_feed_55 ?_
    refine n_ge (tgt := 83) hx hb (by omega) (by omega) dX0_feed_56 (by decide) (fun hc => ?_) (fun hc => ?_)
    ·
      have e5 : x = mn := by omega
      subst e5
      exact K e o me mo se so H locs ls hrel ⟨hP, hD, hS⟩ hl
    ·
      refine lv_aload_n hx hb dX0_feed_59 rfl (lv_at hl 3 rfl) ?_
      refine va_get (D := D) (ci := 0) (v := .ref (h 0)) (C := RX0) (T := TX0) (N := 9) hx hb hts in_X0 hown hK hP 0 rfl rfl 2 (by decide) (hts _ q100) (fun _ h9 => h9) rfl dX0_feed_60 ?_
      refine lv_aload_n hx hb dX0_feed_63 rfl (lv_at hl 3 rfl) ?_
      refine va_get (D := D) (ci := 0) (v := .ref (h 13)) (C := RX0) (T := TX0) (N := 9) hx hb hts in_X0 hown hK hP 0 rfl rfl 0 (by decide) (hts _ q98) (fun _ h9 => h9) rfl dX0_feed_64 ?_
      refine lv_iload hx hb dX0_feed_67 (lv_at hl 0 rfl) ?_
      refine n_bald (v := tx (fr + x)) hx hb hK hP 1 1 rfl rfl (by omega) (by decide) (rfl) dX0_feed_69 ?_
      refine lv_sipush (v := nI 255) hx hb dX0_feed_70 (by decide) ?_
      refine lv_iand hx hb dX0_feed_73 ?_
      refine tpi (y := nI (cu8 (tx (fr + x)))) ((cu8_eq _).1) ?_
      refine cVv (wr := (wDk3 ca h tx kp (nI ln) kd (nI f) gv kl cl)) (As := [.int (nI (cu8 (tx (fr + x))))]) (rest := []) ⟨hx, hb, hml, hown, hts⟩ (m_take l D ca h e o me mo se so r ((f + x) % r) (cu8 (tx (fr + x))) hr0 (Nat.mod_lt _ hr1) (cu8_eq _).2 (absL r ft (f + x)) hrel) (cwV 1 hts (lw_V q147 q148 q149 q13 q150) rfl rfl rfl (by decide +kernel) ⟨Nat.le_of_ble_eq_true rfl, Nat.le_of_ble_eq_true rfl⟩) hK hP hD hS hA [3, 4, 5, 6, 7, 8, 9, 10, 11, 12, 13, 14] [0, 1, 2] rfl rfl (by decide) (by decide) (by decide) 0 1 rfl rfl rfl (fun _ _ _ _ _ _ => trivial) (fun _ _ _ => trivial) rfl hl.1 rfl (Nat.le_of_ble_eq_true rfl) dX0_feed_74 ⟨Nat.le_of_ble_eq_true rfl, Nat.le_of_ble_eq_true rfl⟩ (fun ⟨e, o, me, mo, se, so⟩ H locs hpo hP hD hS => ?_)
      have hP : va_P D vwCl (wDk ca h tx kp (nI ln) kd (nI f) gv kl cl e o me mo se so (nI r) (nI (if (f + x) % r + 1 = r then 0 else (f + x) % r + 1))) H := hP
      have hD : va_D A (wDk ca h tx kp (nI ln) kd (nI f) gv kl cl e o me mo se so (nI r) (nI (if (f + x) % r + 1 = r then 0 else (f + x) % r + 1))) := hD
      have hrel : Rel (absL r ft (f + (x + 1))) e o := by
        show Rel (stpL r (absL r ft (f + x)) ((f + x) % r) (ft (f + x) &&& nI 255)) _ _
        rw [hft x (by omega), (cu8_eq _).1]; exact hpo
      rw [mod_succ hr1] at hP hD
      have hP : va_P D vwCl (wDk ca h tx kp (nI ln) kd (nI f) gv kl cl e o me mo se so (nI r) (nI ((f + (x + 1)) % r))) H := hP
      have hD : va_D A (wDk ca h tx kp (nI ln) kd (nI f) gv kl cl e o me mo se so (nI r) (nI ((f + (x + 1)) % r))) := hD
      refine lv_iinc (v := nI (fr + x + 1)) (lv' := [(5, .int (nI (fr + x + 1))), (4, .int (nI mn)), (3, .int (nI fr)), (0, .ref (h 12))]) hx hb dX0_feed_77 hl (k := 0) rfl (nI_add _ 1) (by decide) rfl (fun ls hl => ?_)
      refine lv_goto (tgt := 50) hx hb dX0_feed_80 (by decide) ?_
      exact ih (x + 1) (by omega) (by omega) e o me mo se so H locs ls hrel ⟨hP, hD, hS⟩ hl
end DK1
set_option maxHeartbeats 1000000 in
set_option maxRecDepth 100000 in
theorem m_dfeed (l : Launch) (D : va_G) (ca : Nat → ClassId) (h : Nat → Nat) (tx kp : Nat → Int32) (kd gv kl : Int32) (e o me mo se so : Nat → Int32) (ln f fr mn : Nat) (hln : ln ≤ 4096) (hf : f ≤ 2048) (wh nn : Int32) (hfr : fr = cut wh % (ln + 1)) (hmn : mn = cut nn % (ln - fr + 1)) (r : Nat) (hr1 : 0 < r) (hr0 : r < 200) (ft : Nat → Int32) (hok : f + mn ≤ 2048) (hft : ∀ i, i < mn → ft (f + i) &&& nI 255 = tx (fr + i) &&& nI 255) (hrel : Rel (absL r ft f) e o) : MI l yX0_feed cX0_feed 6 .boolean rmFd D ca noX [.ref (h 12), .int wh, .int nn] (wDk ca h tx kp (nI ln) kd (nI f) gv kl (nI 0) e o me mo se so (nI r) (nI (f % r))) (S := S6) (fun v u => v = nI 1 ∧ Rel (absL r ft (f + mn)) u.1 u.2.1) (fun u => wDk ca h tx kp (nI ln) kd (nI (f + mn)) gv kl (nI 0) u.1 u.2.1 u.2.2.1 u.2.2.2.1 u.2.2.2.2.1 u.2.2.2.2.2 (nI r) (nI ((f + mn) % r))) 0 0 := by
  refine MI.of (by decide) (Nat.le_of_ble_eq_true rfl) ?_
  intro p en s m below meth c A hx hb hr hml hlk hown hts hnm hA hP hK hD hS hX ls hl
  have hown : s.vm.findClass RX0 = some m.cls := hown
  have hl : lv_has ls 6 [(0, .ref (h 12)), (1, .int wh), (2, .int nn)] := hl
  have F1 : Fix p m c cX0_feed 6 s _ RX0 A D ca := ⟨hx, hb, hml, hown, hts, hA, hK⟩
  have hfl : fr < ln + 1 := by rw [hfr]; exact Nat.mod_lt _ (by omega)
  have hml2 : mn < ln - fr + 1 := by rw [hmn]; exact Nat.mod_lt _ (by omega)
  refine lv_iload_n hx hb dX0_feed_0 rfl (lv_at hl 1 rfl) ?_
  refine lv_aload_n hx hb dX0_feed_1 rfl (lv_at hl 0 rfl) ?_
  refine va_get (D := D) (ci := 0) (v := .int (nI ln)) (C := RX0) (T := TX0) (N := 9) hx hb hts in_X0 hown hK hP 0 rfl rfl 3 (by decide) (hts _ q101) (fun _ h9 => h9) rfl dX0_feed_2 ?_
  refine lv_iconst (v := nI 1) hx hb dX0_feed_5 (by decide) ?_
  refine n_add hx hb dX0_feed_6 ?_
  refine cSi (As := [.int wh, .int (nI (ln + 1))]) (rest := []) ⟨hx, hb, hml, hown, hts⟩ (m_below l wh (ln + 1) (by omega) (by omega)) (va_cwS 2 hts (lw_S q88 q89 q12 q90) rfl rfl rfl (by decide +kernel) ⟨Nat.le_of_ble_eq_true rfl, Nat.le_of_ble_eq_true rfl⟩) hP hS hA rfl hl.1 rfl (Nat.le_of_ble_eq_true rfl) dX0_feed_7 ⟨Nat.le_of_ble_eq_true rfl, Nat.le_of_ble_eq_true rfl⟩ (fun H locs hP hS => ?_)
  refine tpi (y := nI fr) (congrArg nI hfr.symm) ?_
  refine lv_istore_n (lv' := [(3, .int (nI fr)), (0, .ref (h 12)), (1, .int wh), (2, .int nn)]) hx hb dX0_feed_10 rfl hl (by decide) rfl (fun ls hl => ?_)
  refine lv_iload_n hx hb dX0_feed_11 rfl (lv_at hl 3 rfl) ?_
  refine lv_aload_n hx hb dX0_feed_12 rfl (lv_at hl 1 rfl) ?_
  refine va_get (D := D) (ci := 0) (v := .int (nI ln)) (C := RX0) (T := TX0) (N := 9) hx hb hts in_X0 hown hK hP 0 rfl rfl 3 (by decide) (hts _ q101) (fun _ h9 => h9) rfl dX0_feed_13 ?_
  refine lv_iload_n hx hb dX0_feed_16 rfl (lv_at hl 0 rfl) ?_
  refine n_sub hx hb (by omega) dX0_feed_17 ?_
  refine lv_iconst (v := nI 1) hx hb dX0_feed_18 (by decide) ?_
  refine n_add hx hb dX0_feed_19 ?_
  refine cSi (As := [.int nn, .int (nI ((ln - fr) + 1))]) (rest := []) ⟨hx, hb, hml, hown, hts⟩ (m_below l nn (ln - fr + 1) (by omega) (by omega)) (va_cwS 2 hts (lw_S q88 q89 q12 q90) rfl rfl rfl (by decide +kernel) ⟨Nat.le_of_ble_eq_true rfl, Nat.le_of_ble_eq_true rfl⟩) hP hS hA rfl hl.1 rfl (Nat.le_of_ble_eq_true rfl) dX0_feed_20 ⟨Nat.le_of_ble_eq_true rfl, Nat.le_of_ble_eq_true rfl⟩ (fun H locs hP hS => ?_)
  refine tpi (y := nI mn) (congrArg nI hmn.symm) ?_
  refine lv_istore (lv' := [(4, .int (nI mn)), (3, .int (nI fr)), (0, .ref (h 12)), (1, .int wh), (2, .int nn)]) hx hb dX0_feed_23 hl (by decide) rfl (fun ls hl => ?_)
  refine lv_aload_n hx hb dX0_feed_25 rfl (lv_at hl 2 rfl) ?_
  refine va_get (D := D) (ci := 0) (v := .int (nI 0)) (C := RX0) (T := TX0) (N := 9) hx hb hts in_X0 hown hK hP 0 rfl rfl 8 (by decide) (hts _ q106) (fun _ h9 => h9) rfl dX0_feed_26 ?_
  refine n_ifne (tgt := 45) hx hb (by omega) dX0_feed_29 (by decide) (fun hc => ?_) (fun hc => ?_)
  ·
    exact absurd rfl hc
  ·
    refine lv_aload_n hx hb dX0_feed_32 rfl (lv_at hl 2 rfl) ?_
    refine va_get (D := D) (ci := 0) (v := .int (nI f)) (C := RX0) (T := TX0) (N := 9) hx hb hts in_X0 hown hK hP 0 rfl rfl 5 (by decide) (hts _ q103) (fun _ h9 => h9) rfl dX0_feed_33 ?_
    refine lv_iload hx hb dX0_feed_36 (lv_at hl 0 rfl) ?_
    refine n_add hx hb dX0_feed_38 ?_
    refine lv_sipush (v := nI 2048) hx hb dX0_feed_39 (by decide) ?_
    refine n_le (tgt := 47) hx hb (by omega) (by omega) dX0_feed_42 (by decide) (fun hc2 => ?_) (fun hc2 => ?_)
    ·
      refine lv_iload_n hx hb dX0_feed_47 rfl (lv_at hl 1 rfl) ?_
      refine tpi (y := nI (fr + 0)) (rfl) ?_
      refine lv_istore (lv' := [(5, .int (nI (fr + 0))), (4, .int (nI mn)), (3, .int (nI fr)), (0, .ref (h 12)), (1, .int wh), (2, .int nn)]) hx hb dX0_feed_48 hl (by decide) rfl (fun ls hl => ?_)
      refine fee_lp tx kp kd gv kl (nI 0) ln f fr mn r ft hr1 hr0 hln (by omega) hft F1 (fun e o me mo se so H locs ls hrel hst hl => ?_) (mn + 1) 0 (by omega) (by omega) e o me mo se so _ _ ls hrel ⟨hP, hD, hS⟩ (lv_sub hl [0, 1, 2, 3] rfl)
      obtain ⟨hP, hD, hS⟩ := hst
      refine lv_aload_n hx hb dX0_feed_83 rfl (lv_at hl 3 rfl) ?_
      refine lv_dup hx hb dX0_feed_84 rfl ?_
      refine va_get (D := D) (ci := 0) (v := .int (nI f)) (C := RX0) (T := TX0) (N := 9) hx hb hts in_X0 hown hK hP 0 rfl rfl 5 (by decide) (hts _ q103) (fun _ h9 => h9) rfl dX0_feed_85 ?_
      refine lv_iload hx hb dX0_feed_88 (lv_at hl 1 rfl) ?_
      refine n_add hx hb dX0_feed_90 ?_
      refine va_put (D := D) (ci := 0) (v := .int (nI (f + mn))) (ty := .int) (C := RX0) (T := TX0) (N := 9) hx hb hts in_X0 tyX0 tyX0_ok nmX0 hown hK hP hD hS 0 rfl rfl 5 (by decide) (hts _ q103) (fun _ h9 => h9) rfl (by decide +kernel) rfl rfl (Nat.le_of_ble_eq_true rfl) dX0_feed_91 (fun H locs hP hD hS => ?_)
      have hP : va_P D vwCl (wDk ca h tx kp (nI ln) kd (nI (f + mn)) gv kl (nI 0) e o me mo se so (nI r) (nI ((f + mn) % r))) H := hP
      have hD : va_D A (wDk ca h tx kp (nI ln) kd (nI (f + mn)) gv kl (nI 0) e o me mo se so (nI r) (nI ((f + mn) % r))) := hD
      refine lv_iconst (v := nI 1) hx hb dX0_feed_94 (by decide) ?_
      exact zend hx hb hr rfl hlk (e, o, me, mo, se, so) ⟨rfl, hrel⟩ hP hK hD hS (Nat.le_refl _) (Nat.le_refl _) dX0_feed_95
    ·
      omega
set_option maxHeartbeats 1000000 in
set_option maxRecDepth 100000 in
theorem m_dfeed_no (l : Launch) (D : va_G) (ca : Nat → ClassId) (h : Nat → Nat) (tx kp : Nat → Int32) (kd gv kl : Int32) (e o me mo se so : Nat → Int32) (rt aa : Int32) (ln f fr mn : Nat) (hln : ln ≤ 4096) (hf : f ≤ 2048) (wh nn : Int32) (hfr : fr = cut wh % (ln + 1)) (hmn : mn = cut nn % (ln - fr + 1)) (co : Nat) (hco : co ≤ 1) (hno : co = 1 ∨ 2048 < f + mn) : MI l yX0_feed cX0_feed 6 .boolean rmFd D ca noX [.ref (h 12), .int wh, .int nn] (wDk ca h tx kp (nI ln) kd (nI f) gv kl (nI co) e o me mo se so rt aa) (S := Unit) (fun v _ => v = nI 0) (fun _ => wDk ca h tx kp (nI ln) kd (nI f) gv kl (nI co) e o me mo se so rt aa) 0 0 := by
  refine MI.of (by decide) (Nat.le_of_ble_eq_true rfl) ?_
  intro p en s m below meth c A hx hb hr hml hlk hown hts hnm hA hP hK hD hS hX ls hl
  have hown : s.vm.findClass RX0 = some m.cls := hown
  have hl : lv_has ls 6 [(0, .ref (h 12)), (1, .int wh), (2, .int nn)] := hl
  have hfl : fr < ln + 1 := by rw [hfr]; exact Nat.mod_lt _ (by omega)
  have hml2 : mn < ln - fr + 1 := by rw [hmn]; exact Nat.mod_lt _ (by omega)
  refine lv_iload_n hx hb dX0_feed_0 rfl (lv_at hl 1 rfl) ?_
  refine lv_aload_n hx hb dX0_feed_1 rfl (lv_at hl 0 rfl) ?_
  refine va_get (D := D) (ci := 0) (v := .int (nI ln)) (C := RX0) (T := TX0) (N := 9) hx hb hts in_X0 hown hK hP 0 rfl rfl 3 (by decide) (hts _ q101) (fun _ h9 => h9) rfl dX0_feed_2 ?_
  refine lv_iconst (v := nI 1) hx hb dX0_feed_5 (by decide) ?_
  refine n_add hx hb dX0_feed_6 ?_
  refine cSi (As := [.int wh, .int (nI (ln + 1))]) (rest := []) ⟨hx, hb, hml, hown, hts⟩ (m_below l wh (ln + 1) (by omega) (by omega)) (va_cwS 2 hts (lw_S q88 q89 q12 q90) rfl rfl rfl (by decide +kernel) ⟨Nat.le_of_ble_eq_true rfl, Nat.le_of_ble_eq_true rfl⟩) hP hS hA rfl hl.1 rfl (Nat.le_of_ble_eq_true rfl) dX0_feed_7 ⟨Nat.le_of_ble_eq_true rfl, Nat.le_of_ble_eq_true rfl⟩ (fun H locs hP hS => ?_)
  refine tpi (y := nI fr) (congrArg nI hfr.symm) ?_
  refine lv_istore_n (lv' := [(3, .int (nI fr)), (0, .ref (h 12)), (1, .int wh), (2, .int nn)]) hx hb dX0_feed_10 rfl hl (by decide) rfl (fun ls hl => ?_)
  refine lv_iload_n hx hb dX0_feed_11 rfl (lv_at hl 3 rfl) ?_
  refine lv_aload_n hx hb dX0_feed_12 rfl (lv_at hl 1 rfl) ?_
  refine va_get (D := D) (ci := 0) (v := .int (nI ln)) (C := RX0) (T := TX0) (N := 9) hx hb hts in_X0 hown hK hP 0 rfl rfl 3 (by decide) (hts _ q101) (fun _ h9 => h9) rfl dX0_feed_13 ?_
  refine lv_iload_n hx hb dX0_feed_16 rfl (lv_at hl 0 rfl) ?_
  refine n_sub hx hb (by omega) dX0_feed_17 ?_
  refine lv_iconst (v := nI 1) hx hb dX0_feed_18 (by decide) ?_
  refine n_add hx hb dX0_feed_19 ?_
  refine cSi (As := [.int nn, .int (nI ((ln - fr) + 1))]) (rest := []) ⟨hx, hb, hml, hown, hts⟩ (m_below l nn (ln - fr + 1) (by omega) (by omega)) (va_cwS 2 hts (lw_S q88 q89 q12 q90) rfl rfl rfl (by decide +kernel) ⟨Nat.le_of_ble_eq_true rfl, Nat.le_of_ble_eq_true rfl⟩) hP hS hA rfl hl.1 rfl (Nat.le_of_ble_eq_true rfl) dX0_feed_20 ⟨Nat.le_of_ble_eq_true rfl, Nat.le_of_ble_eq_true rfl⟩ (fun H locs hP hS => ?_)
  refine tpi (y := nI mn) (congrArg nI hmn.symm) ?_
  refine lv_istore (lv' := [(4, .int (nI mn)), (3, .int (nI fr)), (0, .ref (h 12)), (1, .int wh), (2, .int nn)]) hx hb dX0_feed_23 hl (by decide) rfl (fun ls hl => ?_)
  refine lv_aload_n hx hb dX0_feed_25 rfl (lv_at hl 2 rfl) ?_
  refine va_get (D := D) (ci := 0) (v := .int (nI co)) (C := RX0) (T := TX0) (N := 9) hx hb hts in_X0 hown hK hP 0 rfl rfl 8 (by decide) (hts _ q106) (fun _ h9 => h9) rfl dX0_feed_26 ?_
  refine n_ifne (tgt := 45) hx hb (by omega) dX0_feed_29 (by decide) (fun hc => ?_) (fun hc => ?_)
  ·
    refine lv_iconst (v := nI 0) hx hb dX0_feed_45 (by decide) ?_
    exact zend hx hb hr rfl hlk () rfl hP hK hD hS (Nat.le_refl _) (Nat.le_refl _) dX0_feed_46
  ·
    refine lv_aload_n hx hb dX0_feed_32 rfl (lv_at hl 2 rfl) ?_
    refine va_get (D := D) (ci := 0) (v := .int (nI f)) (C := RX0) (T := TX0) (N := 9) hx hb hts in_X0 hown hK hP 0 rfl rfl 5 (by decide) (hts _ q103) (fun _ h9 => h9) rfl dX0_feed_33 ?_
    refine lv_iload hx hb dX0_feed_36 (lv_at hl 0 rfl) ?_
    refine n_add hx hb dX0_feed_38 ?_
    refine lv_sipush (v := nI 2048) hx hb dX0_feed_39 (by decide) ?_
    refine n_le (tgt := 47) hx hb (by omega) (by omega) dX0_feed_42 (by decide) (fun hc2 => ?_) (fun hc2 => ?_)
    ·
      omega
    ·
      refine lv_iconst (v := nI 0) hx hb dX0_feed_45 (by decide) ?_
      exact zend hx hb hr rfl hlk () rfl hP hK hD hS (Nat.le_refl _) (Nat.le_refl _) dX0_feed_46
set_option maxHeartbeats 1000000 in
set_option maxRecDepth 100000 in
theorem m_danswer (l : Launch) (D : va_G) (ca : Nat → ClassId) (h : Nat → Nat) (tx kp : Nat → Int32) (len kd fd gv cl : Int32) (e o me mo se so : Nat → Int32) (rt aa : Int32) (k0 : Nat) (hk0 : k0 ≤ 255) (x : Int32) : MI l yX0_answer cX0_answer 2 .int rmBl D ca noX [.ref (h 12), .int x] (wDk ca h tx kp len kd fd gv (nI k0) cl e o me mo se so rt aa) (S := Unit) (fun v _ => v = if k0 = 0 then -1 else kp (cut x % k0) &&& nI 255) (fun _ => wDk ca h tx kp len kd fd gv (nI k0) cl e o me mo se so rt aa) 0 0 := by
  refine MI.of (by decide) (Nat.le_of_ble_eq_true rfl) ?_
  intro p en s m below meth c A hx hb hr hml hlk hown hts hnm hA hP hK hD hS hX ls hl
  have hown : s.vm.findClass RX0 = some m.cls := hown
  have hl : lv_has ls 2 [(0, .ref (h 12)), (1, .int x)] := hl
  refine lv_aload_n hx hb dX0_answer_0 rfl (lv_at hl 0 rfl) ?_
  refine va_get (D := D) (ci := 0) (v := .int (nI k0)) (C := RX0) (T := TX0) (N := 9) hx hb hts in_X0 hown hK hP 0 rfl rfl 7 (by decide) (hts _ q105) (fun _ h9 => h9) rfl dX0_answer_1 ?_
  refine n_ifne (tgt := 11) hx hb (by omega) dX0_answer_4 (by decide) (fun hc => ?_) (fun hc => ?_)
  ·
    refine lv_aload_n hx hb dX0_answer_11 rfl (lv_at hl 0 rfl) ?_
    refine va_get (D := D) (ci := 0) (v := .ref (h 14)) (C := RX0) (T := TX0) (N := 9) hx hb hts in_X0 hown hK hP 0 rfl rfl 1 (by decide) (hts _ q99) (fun _ h9 => h9) rfl dX0_answer_12 ?_
    refine lv_iload_n hx hb dX0_answer_15 rfl (lv_at hl 1 rfl) ?_
    refine lv_aload_n hx hb dX0_answer_16 rfl (lv_at hl 0 rfl) ?_
    refine va_get (D := D) (ci := 0) (v := .int (nI k0)) (C := RX0) (T := TX0) (N := 9) hx hb hts in_X0 hown hK hP 0 rfl rfl 7 (by decide) (hts _ q105) (fun _ h9 => h9) rfl dX0_answer_17 ?_
    refine cSi (As := [.int x, .int (nI k0)]) (rest := [.ref (h 14)]) ⟨hx, hb, hml, hown, hts⟩ (m_below l x k0 (by omega) (by omega)) (va_cwS 2 hts (lw_S q88 q89 q12 q90) rfl rfl rfl (by decide +kernel) ⟨Nat.le_of_ble_eq_true rfl, Nat.le_of_ble_eq_true rfl⟩) hP hS hA rfl hl.1 rfl (Nat.le_of_ble_eq_true rfl) dX0_answer_20 ⟨Nat.le_of_ble_eq_true rfl, Nat.le_of_ble_eq_true rfl⟩ (fun H locs hP hS => ?_)
    have hlt : cut x % k0 < k0 := Nat.mod_lt _ (by omega)
    refine n_bald (v := kp (cut x % k0)) hx hb hK hP 2 1 rfl rfl (by omega) (by decide) (rfl) dX0_answer_23 ?_
    refine lv_sipush (v := nI 255) hx hb dX0_answer_24 (by decide) ?_
    refine lv_iand hx hb dX0_answer_27 ?_
    exact iend hx hb hr hlk () (if_neg hc).symm hP hK hD hS (Nat.le_refl _) (Nat.le_refl _) dX0_answer_28
  ·
    refine lv_iconst (v := -1) hx hb dX0_answer_7 (by decide) ?_
    refine lv_goto (tgt := 28) hx hb dX0_answer_8 (by decide) ?_
    exact iend hx hb hr hlk () (if_pos hc).symm hP hK hD hS (Nat.le_refl _) (Nat.le_refl _) dX0_answer_28
end
section
/-! the desk: close, its constructor -/
def bb (x : Int32) : Int32 := x.toInt8.toInt32.toInt8.toInt32
section DK2
variable {p : Program} {l : Launch} {en : Env} {s : State} {m : MethodId} {args : Array Value} {below : List Frame} {meth : Method} {c : Code} {Q : State → Prop} {D : va_G} {ca : Nat → ClassId} {A : Nat → Prop} {h : Nat → Nat}
set_option maxHeartbeats 1000000 in
set_option maxRecDepth 100000 in
theorem cls_lp (tx : Nat → Int32) (len kd fd kl : Int32) (g G wn r : Nat) (Z : Nat → Int64) (hr1 : 0 < r) (hr0 : r < 200) (hwn : wn ≤ 255) (F : Fix p m c cX0_close 5 s args RX0 A D ca)
    (K : ∀ (k a : Nat) (kp e o me mo se so : Nat → Int32) (H : Heap) (locs : List Loc) (ls : Array Slot), r * k + a = G + wn → a ≤ r → Rel (zzL Z k) e o → (∀ q, q < wn → kp q = bb (outB r Z (G + q))) → Sta D A s (wDk ca h tx kp len kd fd (nI g) kl (nI 1) e o me mo se so (nI r) (nI a)) H locs → lv_has ls 5 [(4, .int (nI wn)), (3, .int (nI wn)), (0, .ref (h 12))] → W p l en rmCl s m args below meth c H locs 0 0 Q (F0 m 120 ls [])) :
    ∀ (n x : Nat), x ≤ wn → wn + 1 ≤ x + n → ∀ (k a : Nat) (kp e o me mo se so : Nat → Int32) (H : Heap) (locs : List Loc) (ls : Array Slot), r * k + a = G + x → a ≤ r → Rel (zzL Z k) e o → (∀ q, q < x → kp q = bb (outB r Z (G + q))) → Sta D A s (wDk ca h tx kp len kd fd (nI g) kl (nI 1) e o me mo se so (nI r) (nI a)) H locs → lv_has ls 5 [(4, .int (nI x)), (3, .int (nI wn)), (0, .ref (h 12))] → W p l en rmCl s m args below meth c H locs 0 0 Q (F0 m 93 ls []) := by
  obtain ⟨hx, hb, hml, hown, hts, hA, hK⟩ := F
  intro n
  induction n with
  | zero => intro x h1 h2; omega
  | succ n ih =>
    intro x hi hn k a kp e o me mo se so H locs ls hka ha hrel hkp hst hl
    obtain ⟨hP, hD, hS⟩ := hst
    refine lv_iload hx hb dX0_close_93 (lv_at hl 0 rfl) ?_
    refine lv_iload_n hx hb dX0_close_95 rfl (lv_at hl 1 rfl) ?_
    refine n_ge (tgt := 120) hx hb (by omega) (by omega) dX0_close_96 (by decide) (fun hc => ?_) (fun hc => ?_)
    ·
      have e5 : x = wn := by omega
      subst e5
      exact K k a kp e o me mo se so H locs ls hka ha hrel hkp ⟨hP, hD, hS⟩ hl
    ·
      refine lv_aload_n hx hb dX0_close_99 rfl (lv_at hl 2 rfl) ?_
      refine va_get (D := D) (ci := 0) (v := .ref (h 14)) (C := RX0) (T := TX0) (N := 9) hx hb hts in_X0 hown hK hP 0 rfl rfl 1 (by decide) (hts _ q99) (fun _ h9 => h9) rfl dX0_close_100 ?_
      refine lv_iload hx hb dX0_close_103 (lv_at hl 0 rfl) ?_
      refine lv_aload_n hx hb dX0_close_105 rfl (lv_at hl 2 rfl) ?_
      refine va_get (D := D) (ci := 0) (v := .ref (h 0)) (C := RX0) (T := TX0) (N := 9) hx hb hts in_X0 hown hK hP 0 rfl rfl 2 (by decide) (hts _ q100) (fun _ h9 => h9) rfl dX0_close_106 ?_
      refine cVi (wr := (wDk3 ca h tx kp len kd fd (nI g) kl (nI 1))) (As := []) (rest := [.int (nI x), .ref (h 14)]) ⟨hx, hb, hml, hown, hts⟩ (m_give l D ca h e o me mo se so r a hr1 hr0 ha (zzL Z k) hrel) (cwV 0 hts (lw_V q187 q188 q189 q13 q190) rfl rfl rfl (by decide +kernel) ⟨Nat.le_of_ble_eq_true rfl, Nat.le_of_ble_eq_true rfl⟩) hK hP hD hS hA [3, 4, 5, 6, 7, 8, 9, 10, 11, 12, 13, 14] [0, 1, 2] rfl rfl (by decide) (by decide) (by decide) 0 1 rfl rfl rfl (fun _ _ _ _ _ _ => trivial) (fun _ _ _ => trivial) rfl hl.1 rfl (Nat.le_of_ble_eq_true rfl) dX0_close_109 ⟨Nat.le_of_ble_eq_true rfl, Nat.le_of_ble_eq_true rfl⟩ (fun v ⟨e2, o2, me, mo, se, so⟩ H locs hpo hP hD hS => ?_)
      have hP : va_P D vwCl (wDk ca h tx kp len kd fd (nI g) kl (nI 1) e2 o2 me mo se so (nI r) (nI ((if a = r then 0 else a) + 1))) H := hP
      have hD : va_D A (wDk ca h tx kp len kd fd (nI g) kl (nI 1) e2 o2 me mo se so (nI r) (nI ((if a = r then 0 else a) + 1))) := hD
      obtain ⟨hv, hrel2⟩ := hpo
      refine lv_i2b hx hb dX0_close_112 rfl ?_
      refine n_bast (ws' := wDk ca h tx (upd kp x (bb v)) len kd fd (nI g) kl (nI 1) e2 o2 me mo se so (nI r) (nI ((if a = r then 0 else a) + 1))) hx hb hK hP hD hS 2 1 (upd kp x (bb v)) rfl rfl (by omega) (by decide) (fun _ _ => rfl) rfl dX0_close_113 (fun H locs hP hD hS => ?_)
      refine lv_iinc (v := nI (x + 1)) (lv' := [(4, .int (nI (x + 1))), (3, .int (nI wn)), (0, .ref (h 12))]) hx hb dX0_close_114 hl (k := 0) rfl (nI_add _ 1) (by decide) rfl (fun ls hl => ?_)
      refine lv_goto (tgt := 93) hx hb dX0_close_117 (by decide) ?_
      by_cases har : a = r
      ·
        simp only [if_pos har] at hv hrel2 hP hD
        have hrel2 : Rel (zzL Z (k + 1)) e2 o2 := hrel2
        have hvo : v = outB r Z (G + x) := by
          rw [hv, show G + x = r * (k + 1) + 0 by rw [Nat.mul_add]; omega]
          exact (outB_at (r := r) Z (k := k + 1) (a := 0) (by omega)).symm
        refine ih (x + 1) (by omega) (by omega) (k + 1) (0 + 1) _ e2 o2 me mo se so H locs ls (by rw [Nat.mul_add]; omega) (by omega) hrel2 (fun q hq => ?_) ⟨hP, hD, hS⟩ hl
        show (if q = x then bb v else kp q) = _
        by_cases hqx : q = x
        · rw [if_pos hqx, hqx, hvo]
        · rw [if_neg hqx]; exact hkp q (by omega)
      ·
        simp only [if_neg har] at hv hrel2 hP hD
        have hrel2 : Rel (zzL Z (k)) e2 o2 := hrel2
        have hvo : v = outB r Z (G + x) := by
          rw [hv, show G + x = r * (k) + a by omega]
          exact (outB_at (r := r) Z (k := k) (a := a) (by omega)).symm
        refine ih (x + 1) (by omega) (by omega) (k) (a + 1) _ e2 o2 me mo se so H locs ls (by omega) (by omega) hrel2 (fun q hq => ?_) ⟨hP, hD, hS⟩ hl
        show (if q = x then bb v else kp q) = _
        by_cases hqx : q = x
        · rw [if_pos hqx, hqx, hvo]
        · rw [if_neg hqx]; exact hkp q (by omega)
end DK2
set_option maxHeartbeats 1000000 in
set_option maxRecDepth 100000 in
theorem m_dclose_no (l : Launch) (D : va_G) (ca : Nat → ClassId) (h : Nat → Nat) (t1 t2 : Nat) (tx kp : Nat → Int32) (len fd kl : Int32) (e o me mo se so : Nat → Int32) (rt aa : Int32) (kk g wn : Nat) (hkk : kk < 6) (hg : g ≤ 4096) (nn : Int32) (hwn : wn = if kk < 4 then SU kk else cu8 nn) (co : Nat) (hco : co ≤ 1) (hno : (kk < 4 ∧ co = 1) ∨ 4096 < g + wn) : MI l yX0_close cX0_close 5 .int rmCl D ca (dkX t1 t2) [.ref (h 12), .int nn] (wDk ca h tx kp len (nI kk) fd (nI g) kl (nI co) e o me mo se so rt aa) (S := Unit) (fun v _ => v = -1) (fun _ => wDk ca h tx kp len (nI kk) fd (nI g) kl (nI co) e o me mo se so rt aa) 0 0 := by
  refine MI.of (by decide) (Nat.le_of_ble_eq_true rfl) ?_
  intro p en s m below meth c A hx hb hr hml hlk hown hts hnm hA hP hK hD hS hX ls hl
  have hown : s.vm.findClass RX0 = some m.cls := hown
  have hl : lv_has ls 5 [(0, .ref (h 12)), (1, .int nn)] := hl
  refine lv_aload_n hx hb dX0_close_0 rfl (lv_at hl 0 rfl) ?_
  refine va_get (D := D) (ci := 0) (v := .int (nI kk)) (C := RX0) (T := TX0) (N := 9) hx hb hts in_X0 hown hK hP 0 rfl rfl 4 (by decide) (hts _ q102) (fun _ h9 => h9) rfl dX0_close_1 ?_
  refine lv_iconst (v := nI 4) hx hb dX0_close_4 (by decide) ?_
  refine n_ge (tgt := 12) hx hb (by omega) (by omega) dX0_close_5 (by decide) (fun h4 => ?_) (fun h4 => ?_)
  ·
    have hw : wn = cu8 nn := by rw [hwn, if_neg (by omega)]
    have h8 := (cu8_eq nn).2
    have hw255 : wn ≤ 255 := by omega
    refine lv_iconst (v := nI 0) hx hb dX0_close_12 (by decide) ?_
    refine lv_istore_n (lv' := [(2, .int (nI 0)), (0, .ref (h 12)), (1, .int nn)]) hx hb dX0_close_13 rfl hl (by decide) rfl (fun ls hl => ?_)
    refine lv_iload_n hx hb dX0_close_14 rfl (lv_at hl 0 rfl) ?_
    refine n_ifeq (tgt := 29) hx hb (by omega) dX0_close_15 (by decide) (fun hz => ?_) (fun hz => ?_)
    ·
      refine lv_iload_n hx hb dX0_close_29 rfl (lv_at hl 2 rfl) ?_
      refine lv_sipush (v := nI 255) hx hb dX0_close_30 (by decide) ?_
      refine lv_iand hx hb dX0_close_33 ?_
      refine tpi (y := nI wn) ((cu8_eq nn).1.trans (congrArg nI hw.symm)) ?_
      refine lv_istore_n (lv' := [(3, .int (nI wn)), (2, .int (nI 0)), (0, .ref (h 12)), (1, .int nn)]) hx hb dX0_close_34 rfl hl (by decide) rfl (fun ls hl => ?_)
      refine lv_iload_n hx hb dX0_close_35 rfl (lv_at hl 1 rfl) ?_
      refine n_ifeq (tgt := 46) hx hb (by omega) dX0_close_36 (by decide) (fun hy => ?_) (fun hy => ?_)
      ·
        refine lv_aload_n hx hb dX0_close_46 rfl (lv_at hl 2 rfl) ?_
        refine va_get (D := D) (ci := 0) (v := .int (nI g)) (C := RX0) (T := TX0) (N := 9) hx hb hts in_X0 hown hK hP 0 rfl rfl 6 (by decide) (hts _ q104) (fun _ h9 => h9) rfl dX0_close_47 ?_
        refine lv_iload_n hx hb dX0_close_50 rfl (lv_at hl 0 rfl) ?_
        refine n_add hx hb dX0_close_51 ?_
        refine lv_sipush (v := nI 4096) hx hb dX0_close_52 (by decide) ?_
        refine n_le (tgt := 60) hx hb (by omega) (by omega) dX0_close_55 (by decide) (fun hle => ?_) (fun hle => ?_)
        ·
          omega
        ·
          refine lv_iconst (v := -1) hx hb dX0_close_58 (by decide) ?_
          exact iend hx hb hr hlk () rfl hP hK hD hS (Nat.le_refl _) (Nat.le_refl _) dX0_close_59
      ·
        exact absurd rfl hy
    ·
      exact absurd rfl hz
  ·
    have hsu := SU_lt kk h4
    have hw : wn = SU kk := by rw [hwn, if_pos h4]
    have hw255 : wn ≤ 255 := by omega
    refine lv_iconst (v := nI 1) hx hb dX0_close_8 (by decide) ?_
    refine lv_goto (tgt := 13) hx hb dX0_close_9 (by decide) ?_
    refine lv_istore_n (lv' := [(2, .int (nI 1)), (0, .ref (h 12)), (1, .int nn)]) hx hb dX0_close_13 rfl hl (by decide) rfl (fun ls hl => ?_)
    refine lv_iload_n hx hb dX0_close_14 rfl (lv_at hl 0 rfl) ?_
    refine n_ifeq (tgt := 29) hx hb (by omega) dX0_close_15 (by decide) (fun hz => ?_) (fun hz => ?_)
    ·
      exact absurd hz (by decide)
    ·
      refine va_gets (v := .ref t2) hx hb hX.2.2.1 hS hown (hts _ q181) (fun _ h9 => h9) dX0_close_18 ?_
      refine lv_aload_n hx hb dX0_close_21 rfl (lv_at hl 1 rfl) ?_
      refine va_get (D := D) (ci := 0) (v := .int (nI kk)) (C := RX0) (T := TX0) (N := 9) hx hb hts in_X0 hown hK hP 0 rfl rfl 4 (by decide) (hts _ q102) (fun _ h9 => h9) rfl dX0_close_22 ?_
      refine va_ti (v := .int (nI (SU kk))) hx hb hX.2.2.2.1 hS (vp_in_nI (by omega) (by decide)) (by rw [nI_clamp (by omega)]) dX0_close_25 ?_
      refine lv_goto (tgt := 34) hx hb dX0_close_26 (by decide) ?_
      refine tpi (y := nI wn) (congrArg nI hw.symm) ?_
      refine lv_istore_n (lv' := [(3, .int (nI wn)), (2, .int (nI 1)), (0, .ref (h 12)), (1, .int nn)]) hx hb dX0_close_34 rfl hl (by decide) rfl (fun ls hl => ?_)
      refine lv_iload_n hx hb dX0_close_35 rfl (lv_at hl 1 rfl) ?_
      refine n_ifeq (tgt := 46) hx hb (by omega) dX0_close_36 (by decide) (fun hy => ?_) (fun hy => ?_)
      ·
        exact absurd hy (by decide)
      ·
        refine lv_aload_n hx hb dX0_close_39 rfl (lv_at hl 2 rfl) ?_
        refine va_get (D := D) (ci := 0) (v := .int (nI co)) (C := RX0) (T := TX0) (N := 9) hx hb hts in_X0 hown hK hP 0 rfl rfl 8 (by decide) (hts _ q106) (fun _ h9 => h9) rfl dX0_close_40 ?_
        refine n_ifne (tgt := 58) hx hb (by omega) dX0_close_43 (by decide) (fun ho => ?_) (fun ho => ?_)
        ·
          refine lv_iconst (v := -1) hx hb dX0_close_58 (by decide) ?_
          exact iend hx hb hr hlk () rfl hP hK hD hS (Nat.le_refl _) (Nat.le_refl _) dX0_close_59
        ·
          refine lv_aload_n hx hb dX0_close_46 rfl (lv_at hl 2 rfl) ?_
          refine va_get (D := D) (ci := 0) (v := .int (nI g)) (C := RX0) (T := TX0) (N := 9) hx hb hts in_X0 hown hK hP 0 rfl rfl 6 (by decide) (hts _ q104) (fun _ h9 => h9) rfl dX0_close_47 ?_
          refine lv_iload_n hx hb dX0_close_50 rfl (lv_at hl 0 rfl) ?_
          refine n_add hx hb dX0_close_51 ?_
          refine lv_sipush (v := nI 4096) hx hb dX0_close_52 (by decide) ?_
          refine n_le (tgt := 60) hx hb (by omega) (by omega) dX0_close_55 (by decide) (fun hle => ?_) (fun hle => ?_)
          ·
            omega
          ·
            refine lv_iconst (v := -1) hx hb dX0_close_58 (by decide) ?_
            exact iend hx hb hr hlk () rfl hP hK hD hS (Nat.le_refl _) (Nat.le_refl _) dX0_close_59
set_option maxHeartbeats 1000000 in
set_option maxRecDepth 100000 in
theorem m_dclose_open (l : Launch) (D : va_G) (ca : Nat → ClassId) (h : Nat → Nat) (t1 t2 : Nat) (tx kp : Nat → Int32) (len fd kl : Int32) (e o me mo se so : Nat → Int32) (kk g wn : Nat) (hkk : kk < 6) (hg : g ≤ 4096) (nn : Int32) (hwn : wn = if kk < 4 then SU kk else cu8 nn) (r a : Nat) (hr1 : 0 < r) (hr0 : r < 200) (ha : a < r) (w : Nat → Int64) (hrel : Rel w e o) (hok : g + wn ≤ 4096) : MI l yX0_close cX0_close 5 .int rmCl D ca (dkX t1 t2) [.ref (h 12), .int nn] (wDk ca h tx kp len (nI kk) fd (nI g) kl (nI 0) e o me mo se so (nI r) (nI a)) (S := (Nat → Int32) × Nat × Nat × S6) (fun v u => v = nI wn ∧ (∀ q, q < wn → u.1 q = bb (outB r (finL r w a (nI (if kk < 4 then 6 else 31))) (0 + q))) ∧ r * u.2.1 + u.2.2.1 = 0 + wn ∧ u.2.2.1 ≤ r ∧ Rel (zzL (finL r w a (nI (if kk < 4 then 6 else 31))) u.2.1) u.2.2.2.1 u.2.2.2.2.1) (fun u => wDk ca h tx u.1 len (nI kk) fd (nI (g + wn)) (nI wn) (nI 1) u.2.2.2.1 u.2.2.2.2.1 u.2.2.2.2.2.1 u.2.2.2.2.2.2.1 u.2.2.2.2.2.2.2.1 u.2.2.2.2.2.2.2.2 (nI r) (nI u.2.2.1)) 0 0 := by
  refine MI.of (by decide) (Nat.le_of_ble_eq_true rfl) ?_
  intro p en s m below meth c A hx hb hr hml hlk hown hts hnm hA hP hK hD hS hX ls hl
  have hown : s.vm.findClass RX0 = some m.cls := hown
  have hl : lv_has ls 5 [(0, .ref (h 12)), (1, .int nn)] := hl
  have F1 : Fix p m c cX0_close 5 s _ RX0 A D ca := ⟨hx, hb, hml, hown, hts, hA, hK⟩
  refine lv_aload_n hx hb dX0_close_0 rfl (lv_at hl 0 rfl) ?_
  refine va_get (D := D) (ci := 0) (v := .int (nI kk)) (C := RX0) (T := TX0) (N := 9) hx hb hts in_X0 hown hK hP 0 rfl rfl 4 (by decide) (hts _ q102) (fun _ h9 => h9) rfl dX0_close_1 ?_
  refine lv_iconst (v := nI 4) hx hb dX0_close_4 (by decide) ?_
  refine n_ge (tgt := 12) hx hb (by omega) (by omega) dX0_close_5 (by decide) (fun h4 => ?_) (fun h4 => ?_)
  ·
    have hw : wn = cu8 nn := by rw [hwn, if_neg (by omega)]
    have h8 := (cu8_eq nn).2
    have hw255 : wn ≤ 255 := by omega
    refine lv_iconst (v := nI 0) hx hb dX0_close_12 (by decide) ?_
    refine lv_istore_n (lv' := [(2, .int (nI 0)), (0, .ref (h 12)), (1, .int nn)]) hx hb dX0_close_13 rfl hl (by decide) rfl (fun ls hl => ?_)
    refine lv_iload_n hx hb dX0_close_14 rfl (lv_at hl 0 rfl) ?_
    refine n_ifeq (tgt := 29) hx hb (by omega) dX0_close_15 (by decide) (fun hz => ?_) (fun hz => ?_)
    ·
      refine lv_iload_n hx hb dX0_close_29 rfl (lv_at hl 2 rfl) ?_
      refine lv_sipush (v := nI 255) hx hb dX0_close_30 (by decide) ?_
      refine lv_iand hx hb dX0_close_33 ?_
      refine tpi (y := nI wn) ((cu8_eq nn).1.trans (congrArg nI hw.symm)) ?_
      refine lv_istore_n (lv' := [(3, .int (nI wn)), (2, .int (nI 0)), (0, .ref (h 12)), (1, .int nn)]) hx hb dX0_close_34 rfl hl (by decide) rfl (fun ls hl => ?_)
      refine lv_iload_n hx hb dX0_close_35 rfl (lv_at hl 1 rfl) ?_
      refine n_ifeq (tgt := 46) hx hb (by omega) dX0_close_36 (by decide) (fun hy => ?_) (fun hy => ?_)
      ·
        refine lv_aload_n hx hb dX0_close_46 rfl (lv_at hl 2 rfl) ?_
        refine va_get (D := D) (ci := 0) (v := .int (nI g)) (C := RX0) (T := TX0) (N := 9) hx hb hts in_X0 hown hK hP 0 rfl rfl 6 (by decide) (hts _ q104) (fun _ h9 => h9) rfl dX0_close_47 ?_
        refine lv_iload_n hx hb dX0_close_50 rfl (lv_at hl 0 rfl) ?_
        refine n_add hx hb dX0_close_51 ?_
        refine lv_sipush (v := nI 4096) hx hb dX0_close_52 (by decide) ?_
        refine n_le (tgt := 60) hx hb (by omega) (by omega) dX0_close_55 (by decide) (fun hle => ?_) (fun hle => ?_)
        ·
          refine lv_aload_n hx hb dX0_close_60 rfl (lv_at hl 2 rfl) ?_
          refine va_get (D := D) (ci := 0) (v := .int (nI 0)) (C := RX0) (T := TX0) (N := 9) hx hb hts in_X0 hown hK hP 0 rfl rfl 8 (by decide) (hts _ q106) (fun _ h9 => h9) rfl dX0_close_61 ?_
          refine n_ifne (tgt := 85) hx hb (by omega) dX0_close_64 (by decide) (fun ho => ?_) (fun ho => ?_)
          ·
            exact absurd rfl ho
          ·
            refine lv_aload_n hx hb dX0_close_67 rfl (lv_at hl 2 rfl) ?_
            refine va_get (D := D) (ci := 0) (v := .ref (h 0)) (C := RX0) (T := TX0) (N := 9) hx hb hts in_X0 hown hK hP 0 rfl rfl 2 (by decide) (hts _ q100) (fun _ h9 => h9) rfl dX0_close_68 ?_
            refine lv_iload_n hx hb dX0_close_71 rfl (lv_at hl 1 rfl) ?_
            refine n_ifeq (tgt := 80) hx hb (by omega) dX0_close_72 (by decide) (fun hm => ?_) (fun hm => ?_)
            ·
              refine lv_bipush (v := nI 31) hx hb dX0_close_80 (by decide) ?_
              refine cVv (wr := (wDk3 ca h tx kp len (nI kk) fd (nI g) kl (nI 0))) (As := [.int (nI 31)]) (rest := []) ⟨hx, hb, hml, hown, hts⟩ (m_end l D ca h e o me mo se so r a 31 hr0 ha (by decide) w hrel) (cwV 1 hts (lw_V q183 q184 q185 q13 q186) rfl rfl rfl (by decide +kernel) ⟨Nat.le_of_ble_eq_true rfl, Nat.le_of_ble_eq_true rfl⟩) hK hP hD hS hA [3, 4, 5, 6, 7, 8, 9, 10, 11, 12, 13, 14] [0, 1, 2] rfl rfl (by decide) (by decide) (by decide) 0 1 rfl rfl rfl (fun _ _ _ _ _ _ => trivial) (fun _ _ _ => trivial) rfl hl.1 rfl (Nat.le_of_ble_eq_true rfl) dX0_close_82 ⟨Nat.le_of_ble_eq_true rfl, Nat.le_of_ble_eq_true rfl⟩ (fun ⟨e, o, me, mo, se, so⟩ H locs hpo hP hD hS => ?_)
              have hP : va_P D vwCl (wDk ca h tx kp len (nI kk) fd (nI g) kl (nI 0) e o me mo se so (nI r) (nI 0)) H := hP
              have hD : va_D A (wDk ca h tx kp len (nI kk) fd (nI g) kl (nI 0) e o me mo se so (nI r) (nI 0)) := hD
              have hrel : Rel (zzL (finL r w a (nI (if kk < 4 then 6 else 31))) 0) e o := by rw [if_neg (show ¬ kk < 4 by omega)]; exact hpo
              refine lv_aload_n hx hb dX0_close_85 rfl (lv_at hl 2 rfl) ?_
              refine lv_iconst (v := nI 1) hx hb dX0_close_86 (by decide) ?_
              refine va_put (D := D) (ci := 0) (v := .int (nI 1)) (ty := .boolean) (C := RX0) (T := TX0) (N := 9) hx hb hts in_X0 tyX0 tyX0_ok nmX0 hown hK hP hD hS 0 rfl rfl 8 (by decide) (hts _ q106) (fun _ h9 => h9) rfl (by decide +kernel) rfl rfl (Nat.le_of_ble_eq_true rfl) dX0_close_87 (fun H locs hP hD hS => ?_)
              have hP : va_P D vwCl (wDk ca h tx kp len (nI kk) fd (nI g) kl (nI 1) e o me mo se so (nI r) (nI 0)) H := hP
              have hD : va_D A (wDk ca h tx kp len (nI kk) fd (nI g) kl (nI 1) e o me mo se so (nI r) (nI 0)) := hD
              refine lv_iconst (v := nI 0) hx hb dX0_close_90 (by decide) ?_
              refine lv_istore (lv' := [(4, .int (nI 0)), (3, .int (nI wn)), (2, .int (nI 0)), (0, .ref (h 12)), (1, .int nn)]) hx hb dX0_close_91 hl (by decide) rfl (fun ls hl => ?_)
              refine cls_lp tx len (nI kk) fd kl g (0) wn r (finL r w a (nI (if kk < 4 then 6 else 31))) hr1 hr0 hw255 F1 (fun k a kp e o me mo se so H locs ls hka ha hrel hkp hst hl => ?_) (wn + 1) 0 (by omega) (by omega) 0 0 kp e o me mo se so _ _ ls (by omega) (by omega) hrel (fun q hq => absurd hq (by omega)) ⟨hP, hD, hS⟩ (lv_sub hl [0, 1, 3] rfl)
              obtain ⟨hP, hD, hS⟩ := hst
              refine lv_aload_n hx hb dX0_close_120 rfl (lv_at hl 2 rfl) ?_
              refine lv_dup hx hb dX0_close_121 rfl ?_
              refine va_get (D := D) (ci := 0) (v := .int (nI g)) (C := RX0) (T := TX0) (N := 9) hx hb hts in_X0 hown hK hP 0 rfl rfl 6 (by decide) (hts _ q104) (fun _ h9 => h9) rfl dX0_close_122 ?_
              refine lv_iload_n hx hb dX0_close_125 rfl (lv_at hl 1 rfl) ?_
              refine n_add hx hb dX0_close_126 ?_
              refine va_put (D := D) (ci := 0) (v := .int (nI (g + wn))) (ty := .int) (C := RX0) (T := TX0) (N := 9) hx hb hts in_X0 tyX0 tyX0_ok nmX0 hown hK hP hD hS 0 rfl rfl 6 (by decide) (hts _ q104) (fun _ h9 => h9) rfl (by decide +kernel) rfl rfl (Nat.le_of_ble_eq_true rfl) dX0_close_127 (fun H locs hP hD hS => ?_)
              have hP : va_P D vwCl (wDk ca h tx kp len (nI kk) fd (nI (g + wn)) kl (nI 1) e o me mo se so (nI r) (nI a)) H := hP
              have hD : va_D A (wDk ca h tx kp len (nI kk) fd (nI (g + wn)) kl (nI 1) e o me mo se so (nI r) (nI a)) := hD
              refine lv_aload_n hx hb dX0_close_130 rfl (lv_at hl 2 rfl) ?_
              refine lv_iload_n hx hb dX0_close_131 rfl (lv_at hl 1 rfl) ?_
              refine va_put (D := D) (ci := 0) (v := .int (nI wn)) (ty := .int) (C := RX0) (T := TX0) (N := 9) hx hb hts in_X0 tyX0 tyX0_ok nmX0 hown hK hP hD hS 0 rfl rfl 7 (by decide) (hts _ q105) (fun _ h9 => h9) rfl (by decide +kernel) rfl rfl (Nat.le_of_ble_eq_true rfl) dX0_close_132 (fun H locs hP hD hS => ?_)
              have hP : va_P D vwCl (wDk ca h tx kp len (nI kk) fd (nI (g + wn)) (nI wn) (nI 1) e o me mo se so (nI r) (nI a)) H := hP
              have hD : va_D A (wDk ca h tx kp len (nI kk) fd (nI (g + wn)) (nI wn) (nI 1) e o me mo se so (nI r) (nI a)) := hD
              refine lv_iload_n hx hb dX0_close_135 rfl (lv_at hl 1 rfl) ?_
              exact iend hx hb hr hlk (kp, k, a, e, o, me, mo, se, so) ⟨rfl, hkp, hka, ha, hrel⟩ hP hK hD hS (Nat.le_refl _) (Nat.le_refl _) dX0_close_136
            ·
              exact absurd rfl hm
        ·
          omega
      ·
        exact absurd rfl hy
    ·
      exact absurd rfl hz
  ·
    have hsu := SU_lt kk h4
    have hw : wn = SU kk := by rw [hwn, if_pos h4]
    have hw255 : wn ≤ 255 := by omega
    refine lv_iconst (v := nI 1) hx hb dX0_close_8 (by decide) ?_
    refine lv_goto (tgt := 13) hx hb dX0_close_9 (by decide) ?_
    refine lv_istore_n (lv' := [(2, .int (nI 1)), (0, .ref (h 12)), (1, .int nn)]) hx hb dX0_close_13 rfl hl (by decide) rfl (fun ls hl => ?_)
    refine lv_iload_n hx hb dX0_close_14 rfl (lv_at hl 0 rfl) ?_
    refine n_ifeq (tgt := 29) hx hb (by omega) dX0_close_15 (by decide) (fun hz => ?_) (fun hz => ?_)
    ·
      exact absurd hz (by decide)
    ·
      refine va_gets (v := .ref t2) hx hb hX.2.2.1 hS hown (hts _ q181) (fun _ h9 => h9) dX0_close_18 ?_
      refine lv_aload_n hx hb dX0_close_21 rfl (lv_at hl 1 rfl) ?_
      refine va_get (D := D) (ci := 0) (v := .int (nI kk)) (C := RX0) (T := TX0) (N := 9) hx hb hts in_X0 hown hK hP 0 rfl rfl 4 (by decide) (hts _ q102) (fun _ h9 => h9) rfl dX0_close_22 ?_
      refine va_ti (v := .int (nI (SU kk))) hx hb hX.2.2.2.1 hS (vp_in_nI (by omega) (by decide)) (by rw [nI_clamp (by omega)]) dX0_close_25 ?_
      refine lv_goto (tgt := 34) hx hb dX0_close_26 (by decide) ?_
      refine tpi (y := nI wn) (congrArg nI hw.symm) ?_
      refine lv_istore_n (lv' := [(3, .int (nI wn)), (2, .int (nI 1)), (0, .ref (h 12)), (1, .int nn)]) hx hb dX0_close_34 rfl hl (by decide) rfl (fun ls hl => ?_)
      refine lv_iload_n hx hb dX0_close_35 rfl (lv_at hl 1 rfl) ?_
      refine n_ifeq (tgt := 46) hx hb (by omega) dX0_close_36 (by decide) (fun hy => ?_) (fun hy => ?_)
      ·
        exact absurd hy (by decide)
      ·
        refine lv_aload_n hx hb dX0_close_39 rfl (lv_at hl 2 rfl) ?_
        refine va_get (D := D) (ci := 0) (v := .int (nI 0)) (C := RX0) (T := TX0) (N := 9) hx hb hts in_X0 hown hK hP 0 rfl rfl 8 (by decide) (hts _ q106) (fun _ h9 => h9) rfl dX0_close_40 ?_
        refine n_ifne (tgt := 58) hx hb (by omega) dX0_close_43 (by decide) (fun ho => ?_) (fun ho => ?_)
        ·
          exact absurd rfl ho
        ·
          refine lv_aload_n hx hb dX0_close_46 rfl (lv_at hl 2 rfl) ?_
          refine va_get (D := D) (ci := 0) (v := .int (nI g)) (C := RX0) (T := TX0) (N := 9) hx hb hts in_X0 hown hK hP 0 rfl rfl 6 (by decide) (hts _ q104) (fun _ h9 => h9) rfl dX0_close_47 ?_
          refine lv_iload_n hx hb dX0_close_50 rfl (lv_at hl 0 rfl) ?_
          refine n_add hx hb dX0_close_51 ?_
          refine lv_sipush (v := nI 4096) hx hb dX0_close_52 (by decide) ?_
          refine n_le (tgt := 60) hx hb (by omega) (by omega) dX0_close_55 (by decide) (fun hle => ?_) (fun hle => ?_)
          ·
            refine lv_aload_n hx hb dX0_close_60 rfl (lv_at hl 2 rfl) ?_
            refine va_get (D := D) (ci := 0) (v := .int (nI 0)) (C := RX0) (T := TX0) (N := 9) hx hb hts in_X0 hown hK hP 0 rfl rfl 8 (by decide) (hts _ q106) (fun _ h9 => h9) rfl dX0_close_61 ?_
            refine n_ifne (tgt := 85) hx hb (by omega) dX0_close_64 (by decide) (fun ho => ?_) (fun ho => ?_)
            ·
              exact absurd rfl ho
            ·
              refine lv_aload_n hx hb dX0_close_67 rfl (lv_at hl 2 rfl) ?_
              refine va_get (D := D) (ci := 0) (v := .ref (h 0)) (C := RX0) (T := TX0) (N := 9) hx hb hts in_X0 hown hK hP 0 rfl rfl 2 (by decide) (hts _ q100) (fun _ h9 => h9) rfl dX0_close_68 ?_
              refine lv_iload_n hx hb dX0_close_71 rfl (lv_at hl 1 rfl) ?_
              refine n_ifeq (tgt := 80) hx hb (by omega) dX0_close_72 (by decide) (fun hm => ?_) (fun hm => ?_)
              ·
                exact absurd hm (by decide)
              ·
                refine lv_bipush (v := nI 6) hx hb dX0_close_75 (by decide) ?_
                refine lv_goto (tgt := 82) hx hb dX0_close_77 (by decide) ?_
                refine cVv (wr := (wDk3 ca h tx kp len (nI kk) fd (nI g) kl (nI 0))) (As := [.int (nI 6)]) (rest := []) ⟨hx, hb, hml, hown, hts⟩ (m_end l D ca h e o me mo se so r a 6 hr0 ha (by decide) w hrel) (cwV 1 hts (lw_V q183 q184 q185 q13 q186) rfl rfl rfl (by decide +kernel) ⟨Nat.le_of_ble_eq_true rfl, Nat.le_of_ble_eq_true rfl⟩) hK hP hD hS hA [3, 4, 5, 6, 7, 8, 9, 10, 11, 12, 13, 14] [0, 1, 2] rfl rfl (by decide) (by decide) (by decide) 0 1 rfl rfl rfl (fun _ _ _ _ _ _ => trivial) (fun _ _ _ => trivial) rfl hl.1 rfl (Nat.le_of_ble_eq_true rfl) dX0_close_82 ⟨Nat.le_of_ble_eq_true rfl, Nat.le_of_ble_eq_true rfl⟩ (fun ⟨e, o, me, mo, se, so⟩ H locs hpo hP hD hS => ?_)
                have hP : va_P D vwCl (wDk ca h tx kp len (nI kk) fd (nI g) kl (nI 0) e o me mo se so (nI r) (nI 0)) H := hP
                have hD : va_D A (wDk ca h tx kp len (nI kk) fd (nI g) kl (nI 0) e o me mo se so (nI r) (nI 0)) := hD
                have hrel : Rel (zzL (finL r w a (nI (if kk < 4 then 6 else 31))) 0) e o := by rw [if_pos h4]; exact hpo
                refine lv_aload_n hx hb dX0_close_85 rfl (lv_at hl 2 rfl) ?_
                refine lv_iconst (v := nI 1) hx hb dX0_close_86 (by decide) ?_
                refine va_put (D := D) (ci := 0) (v := .int (nI 1)) (ty := .boolean) (C := RX0) (T := TX0) (N := 9) hx hb hts in_X0 tyX0 tyX0_ok nmX0 hown hK hP hD hS 0 rfl rfl 8 (by decide) (hts _ q106) (fun _ h9 => h9) rfl (by decide +kernel) rfl rfl (Nat.le_of_ble_eq_true rfl) dX0_close_87 (fun H locs hP hD hS => ?_)
                have hP : va_P D vwCl (wDk ca h tx kp len (nI kk) fd (nI g) kl (nI 1) e o me mo se so (nI r) (nI 0)) H := hP
                have hD : va_D A (wDk ca h tx kp len (nI kk) fd (nI g) kl (nI 1) e o me mo se so (nI r) (nI 0)) := hD
                refine lv_iconst (v := nI 0) hx hb dX0_close_90 (by decide) ?_
                refine lv_istore (lv' := [(4, .int (nI 0)), (3, .int (nI wn)), (2, .int (nI 1)), (0, .ref (h 12)), (1, .int nn)]) hx hb dX0_close_91 hl (by decide) rfl (fun ls hl => ?_)
                refine cls_lp tx len (nI kk) fd kl g (0) wn r (finL r w a (nI (if kk < 4 then 6 else 31))) hr1 hr0 hw255 F1 (fun k a kp e o me mo se so H locs ls hka ha hrel hkp hst hl => ?_) (wn + 1) 0 (by omega) (by omega) 0 0 kp e o me mo se so _ _ ls (by omega) (by omega) hrel (fun q hq => absurd hq (by omega)) ⟨hP, hD, hS⟩ (lv_sub hl [0, 1, 3] rfl)
                obtain ⟨hP, hD, hS⟩ := hst
                refine lv_aload_n hx hb dX0_close_120 rfl (lv_at hl 2 rfl) ?_
                refine lv_dup hx hb dX0_close_121 rfl ?_
                refine va_get (D := D) (ci := 0) (v := .int (nI g)) (C := RX0) (T := TX0) (N := 9) hx hb hts in_X0 hown hK hP 0 rfl rfl 6 (by decide) (hts _ q104) (fun _ h9 => h9) rfl dX0_close_122 ?_
                refine lv_iload_n hx hb dX0_close_125 rfl (lv_at hl 1 rfl) ?_
                refine n_add hx hb dX0_close_126 ?_
                refine va_put (D := D) (ci := 0) (v := .int (nI (g + wn))) (ty := .int) (C := RX0) (T := TX0) (N := 9) hx hb hts in_X0 tyX0 tyX0_ok nmX0 hown hK hP hD hS 0 rfl rfl 6 (by decide) (hts _ q104) (fun _ h9 => h9) rfl (by decide +kernel) rfl rfl (Nat.le_of_ble_eq_true rfl) dX0_close_127 (fun H locs hP hD hS => ?_)
                have hP : va_P D vwCl (wDk ca h tx kp len (nI kk) fd (nI (g + wn)) kl (nI 1) e o me mo se so (nI r) (nI a)) H := hP
                have hD : va_D A (wDk ca h tx kp len (nI kk) fd (nI (g + wn)) kl (nI 1) e o me mo se so (nI r) (nI a)) := hD
                refine lv_aload_n hx hb dX0_close_130 rfl (lv_at hl 2 rfl) ?_
                refine lv_iload_n hx hb dX0_close_131 rfl (lv_at hl 1 rfl) ?_
                refine va_put (D := D) (ci := 0) (v := .int (nI wn)) (ty := .int) (C := RX0) (T := TX0) (N := 9) hx hb hts in_X0 tyX0 tyX0_ok nmX0 hown hK hP hD hS 0 rfl rfl 7 (by decide) (hts _ q105) (fun _ h9 => h9) rfl (by decide +kernel) rfl rfl (Nat.le_of_ble_eq_true rfl) dX0_close_132 (fun H locs hP hD hS => ?_)
                have hP : va_P D vwCl (wDk ca h tx kp len (nI kk) fd (nI (g + wn)) (nI wn) (nI 1) e o me mo se so (nI r) (nI a)) H := hP
                have hD : va_D A (wDk ca h tx kp len (nI kk) fd (nI (g + wn)) (nI wn) (nI 1) e o me mo se so (nI r) (nI a)) := hD
                refine lv_iload_n hx hb dX0_close_135 rfl (lv_at hl 1 rfl) ?_
                exact iend hx hb hr hlk (kp, k, a, e, o, me, mo, se, so) ⟨rfl, hkp, hka, ha, hrel⟩ hP hK hD hS (Nat.le_refl _) (Nat.le_refl _) dX0_close_136
          ·
            omega
set_option maxHeartbeats 1000000 in
set_option maxRecDepth 100000 in
theorem m_dclose_more (l : Launch) (D : va_G) (ca : Nat → ClassId) (h : Nat → Nat) (t1 t2 : Nat) (tx kp : Nat → Int32) (len fd kl : Int32) (e o me mo se so : Nat → Int32) (kk g wn : Nat) (hkk : kk < 6) (hg : g ≤ 4096) (nn : Int32) (hwn : wn = if kk < 4 then SU kk else cu8 nn) (r a k : Nat) (hr1 : 0 < r) (hr0 : r < 200) (ha : a ≤ r) (Z : Nat → Int64) (hka : r * k + a = g) (hrel : Rel (zzL Z k) e o) (hk4 : 4 ≤ kk) (hok : g + wn ≤ 4096) : MI l yX0_close cX0_close 5 .int rmCl D ca (dkX t1 t2) [.ref (h 12), .int nn] (wDk ca h tx kp len (nI kk) fd (nI g) kl (nI 1) e o me mo se so (nI r) (nI a)) (S := (Nat → Int32) × Nat × Nat × S6) (fun v u => v = nI wn ∧ (∀ q, q < wn → u.1 q = bb (outB r (Z) (g + q))) ∧ r * u.2.1 + u.2.2.1 = g + wn ∧ u.2.2.1 ≤ r ∧ Rel (zzL (Z) u.2.1) u.2.2.2.1 u.2.2.2.2.1) (fun u => wDk ca h tx u.1 len (nI kk) fd (nI (g + wn)) (nI wn) (nI 1) u.2.2.2.1 u.2.2.2.2.1 u.2.2.2.2.2.1 u.2.2.2.2.2.2.1 u.2.2.2.2.2.2.2.1 u.2.2.2.2.2.2.2.2 (nI r) (nI u.2.2.1)) 0 0 := by
  refine MI.of (by decide) (Nat.le_of_ble_eq_true rfl) ?_
  intro p en s m below meth c A hx hb hr hml hlk hown hts hnm hA hP hK hD hS hX ls hl
  have hown : s.vm.findClass RX0 = some m.cls := hown
  have hl : lv_has ls 5 [(0, .ref (h 12)), (1, .int nn)] := hl
  have F1 : Fix p m c cX0_close 5 s _ RX0 A D ca := ⟨hx, hb, hml, hown, hts, hA, hK⟩
  refine lv_aload_n hx hb dX0_close_0 rfl (lv_at hl 0 rfl) ?_
  refine va_get (D := D) (ci := 0) (v := .int (nI kk)) (C := RX0) (T := TX0) (N := 9) hx hb hts in_X0 hown hK hP 0 rfl rfl 4 (by decide) (hts _ q102) (fun _ h9 => h9) rfl dX0_close_1 ?_
  refine lv_iconst (v := nI 4) hx hb dX0_close_4 (by decide) ?_
  refine n_ge (tgt := 12) hx hb (by omega) (by omega) dX0_close_5 (by decide) (fun h4 => ?_) (fun h4 => ?_)
  ·
    have hw : wn = cu8 nn := by rw [hwn, if_neg (by omega)]
    have h8 := (cu8_eq nn).2
    have hw255 : wn ≤ 255 := by omega
    refine lv_iconst (v := nI 0) hx hb dX0_close_12 (by decide) ?_
    refine lv_istore_n (lv' := [(2, .int (nI 0)), (0, .ref (h 12)), (1, .int nn)]) hx hb dX0_close_13 rfl hl (by decide) rfl (fun ls hl => ?_)
    refine lv_iload_n hx hb dX0_close_14 rfl (lv_at hl 0 rfl) ?_
    refine n_ifeq (tgt := 29) hx hb (by omega) dX0_close_15 (by decide) (fun hz => ?_) (fun hz => ?_)
    ·
      refine lv_iload_n hx hb dX0_close_29 rfl (lv_at hl 2 rfl) ?_
      refine lv_sipush (v := nI 255) hx hb dX0_close_30 (by decide) ?_
      refine lv_iand hx hb dX0_close_33 ?_
      refine tpi (y := nI wn) ((cu8_eq nn).1.trans (congrArg nI hw.symm)) ?_
      refine lv_istore_n (lv' := [(3, .int (nI wn)), (2, .int (nI 0)), (0, .ref (h 12)), (1, .int nn)]) hx hb dX0_close_34 rfl hl (by decide) rfl (fun ls hl => ?_)
      refine lv_iload_n hx hb dX0_close_35 rfl (lv_at hl 1 rfl) ?_
      refine n_ifeq (tgt := 46) hx hb (by omega) dX0_close_36 (by decide) (fun hy => ?_) (fun hy => ?_)
      ·
        refine lv_aload_n hx hb dX0_close_46 rfl (lv_at hl 2 rfl) ?_
        refine va_get (D := D) (ci := 0) (v := .int (nI g)) (C := RX0) (T := TX0) (N := 9) hx hb hts in_X0 hown hK hP 0 rfl rfl 6 (by decide) (hts _ q104) (fun _ h9 => h9) rfl dX0_close_47 ?_
        refine lv_iload_n hx hb dX0_close_50 rfl (lv_at hl 0 rfl) ?_
        refine n_add hx hb dX0_close_51 ?_
        refine lv_sipush (v := nI 4096) hx hb dX0_close_52 (by decide) ?_
        refine n_le (tgt := 60) hx hb (by omega) (by omega) dX0_close_55 (by decide) (fun hle => ?_) (fun hle => ?_)
        ·
          refine lv_aload_n hx hb dX0_close_60 rfl (lv_at hl 2 rfl) ?_
          refine va_get (D := D) (ci := 0) (v := .int (nI 1)) (C := RX0) (T := TX0) (N := 9) hx hb hts in_X0 hown hK hP 0 rfl rfl 8 (by decide) (hts _ q106) (fun _ h9 => h9) rfl dX0_close_61 ?_
          refine n_ifne (tgt := 85) hx hb (by omega) dX0_close_64 (by decide) (fun ho => ?_) (fun ho => ?_)
          ·
            refine lv_aload_n hx hb dX0_close_85 rfl (lv_at hl 2 rfl) ?_
            refine lv_iconst (v := nI 1) hx hb dX0_close_86 (by decide) ?_
            refine va_put (D := D) (ci := 0) (v := .int (nI 1)) (ty := .boolean) (C := RX0) (T := TX0) (N := 9) hx hb hts in_X0 tyX0 tyX0_ok nmX0 hown hK hP hD hS 0 rfl rfl 8 (by decide) (hts _ q106) (fun _ h9 => h9) rfl (by decide +kernel) rfl rfl (Nat.le_of_ble_eq_true rfl) dX0_close_87 (fun H locs hP hD hS => ?_)
            have hP : va_P D vwCl (wDk ca h tx kp len (nI kk) fd (nI g) kl (nI 1) e o me mo se so (nI r) (nI a)) H := hP
            have hD : va_D A (wDk ca h tx kp len (nI kk) fd (nI g) kl (nI 1) e o me mo se so (nI r) (nI a)) := hD
            refine lv_iconst (v := nI 0) hx hb dX0_close_90 (by decide) ?_
            refine lv_istore (lv' := [(4, .int (nI 0)), (3, .int (nI wn)), (2, .int (nI 0)), (0, .ref (h 12)), (1, .int nn)]) hx hb dX0_close_91 hl (by decide) rfl (fun ls hl => ?_)
            refine cls_lp tx len (nI kk) fd kl g (g) wn r (Z) hr1 hr0 hw255 F1 (fun k a kp e o me mo se so H locs ls hka ha hrel hkp hst hl => ?_) (wn + 1) 0 (by omega) (by omega) k a kp e o me mo se so _ _ ls (by omega) (ha) hrel (fun q hq => absurd hq (by omega)) ⟨hP, hD, hS⟩ (lv_sub hl [0, 1, 3] rfl)
            obtain ⟨hP, hD, hS⟩ := hst
            refine lv_aload_n hx hb dX0_close_120 rfl (lv_at hl 2 rfl) ?_
            refine lv_dup hx hb dX0_close_121 rfl ?_
            refine va_get (D := D) (ci := 0) (v := .int (nI g)) (C := RX0) (T := TX0) (N := 9) hx hb hts in_X0 hown hK hP 0 rfl rfl 6 (by decide) (hts _ q104) (fun _ h9 => h9) rfl dX0_close_122 ?_
            refine lv_iload_n hx hb dX0_close_125 rfl (lv_at hl 1 rfl) ?_
            refine n_add hx hb dX0_close_126 ?_
            refine va_put (D := D) (ci := 0) (v := .int (nI (g + wn))) (ty := .int) (C := RX0) (T := TX0) (N := 9) hx hb hts in_X0 tyX0 tyX0_ok nmX0 hown hK hP hD hS 0 rfl rfl 6 (by decide) (hts _ q104) (fun _ h9 => h9) rfl (by decide +kernel) rfl rfl (Nat.le_of_ble_eq_true rfl) dX0_close_127 (fun H locs hP hD hS => ?_)
            have hP : va_P D vwCl (wDk ca h tx kp len (nI kk) fd (nI (g + wn)) kl (nI 1) e o me mo se so (nI r) (nI a)) H := hP
            have hD : va_D A (wDk ca h tx kp len (nI kk) fd (nI (g + wn)) kl (nI 1) e o me mo se so (nI r) (nI a)) := hD
            refine lv_aload_n hx hb dX0_close_130 rfl (lv_at hl 2 rfl) ?_
            refine lv_iload_n hx hb dX0_close_131 rfl (lv_at hl 1 rfl) ?_
            refine va_put (D := D) (ci := 0) (v := .int (nI wn)) (ty := .int) (C := RX0) (T := TX0) (N := 9) hx hb hts in_X0 tyX0 tyX0_ok nmX0 hown hK hP hD hS 0 rfl rfl 7 (by decide) (hts _ q105) (fun _ h9 => h9) rfl (by decide +kernel) rfl rfl (Nat.le_of_ble_eq_true rfl) dX0_close_132 (fun H locs hP hD hS => ?_)
            have hP : va_P D vwCl (wDk ca h tx kp len (nI kk) fd (nI (g + wn)) (nI wn) (nI 1) e o me mo se so (nI r) (nI a)) H := hP
            have hD : va_D A (wDk ca h tx kp len (nI kk) fd (nI (g + wn)) (nI wn) (nI 1) e o me mo se so (nI r) (nI a)) := hD
            refine lv_iload_n hx hb dX0_close_135 rfl (lv_at hl 1 rfl) ?_
            exact iend hx hb hr hlk (kp, k, a, e, o, me, mo, se, so) ⟨rfl, hkp, hka, ha, hrel⟩ hP hK hD hS (Nat.le_refl _) (Nat.le_refl _) dX0_close_136
          ·
            exact absurd ho (by decide)
        ·
          omega
      ·
        exact absurd rfl hy
    ·
      exact absurd rfl hz
  ·
    omega
abbrev rmDi : Room := { frames := 3, cells := 14, slots := 4572, locals := 57 }
set_option maxHeartbeats 1000000 in
set_option maxRecDepth 100000 in
theorem m_dinit (l : Launch) (D : va_G) (ca : Nat → ClassId) (h0 : Nat) (t1 t2 : Nat) : MV l yX0_init cX0_init 1 rmDi D ca (dkX t1 t2) [.ref h0] ([(h0, .inr (0, [.null, .null, .null, .int 0, .int 0, .int 0, .int 0, .int 0, .int 0]))]) (S := Nat → Nat) (fun u => u 12 = h0) (fun u => wDk ca u (fun _ => 0) (fun _ => 0) 0 (nI 0) (nI 0) (nI 0) (nI 0) (nI 0) (fun _ => 0) (fun _ => 0) (fun _ => 0) (fun _ => 0) (fun _ => 0) (fun _ => 0) (nI (RT 0)) (nI 0)) 14 4572 := by
  refine MV.of (by decide) (Nat.le_of_ble_eq_true rfl) ?_
  intro p en s m below meth c A hx hb hr hml hlk hown hts hnm hA hP hK hD hS hX ls hl
  have hown : s.vm.findClass RX0 = some m.cls := hown
  have hl : lv_has ls 1 [(0, .ref h0)] := hl
  have hnm : meth.name = "<init>" := hnm
  have hnest := hX.2.2.2.2
  refine lv_aload_n hx hb dX0_init_0 rfl (lv_at hl 0 rfl) ?_
  refine W.objInit hx hb hown (hts _ q22) (hts _ q23) (hts _ q24) rfl (by rw [hml]; exact hl.1) rfl dX0_init_1 (Nat.le_of_ble_eq_true rfl) (Nat.le_of_ble_eq_true rfl) ?_
  refine W.eq (g2 := F0 m 4 ls []) rfl ?_
  refine lv_aload_n hx hb dX0_init_4 rfl (lv_at hl 0 rfl) ?_
  refine lv_sipush (v := nI 4096) hx hb dX0_init_5 (by decide) ?_
  refine n_newa (atype := .byte) (ty := .byte) (N := 4096) (a0 := (4096, .inl (fun _ => 0))) hx hb (hts _ q54) rfl (fun _ h => h) hK hP hD hS hA 1 rfl (fun _ => rfl) (by decide) (by decide) (Nat.le_of_ble_eq_true rfl) (Nat.le_of_ble_eq_true rfl) dX0_init_8 (fun ad13 H hP hD hS => ?_)
  have hP : va_P D vwCl ([(h0, .inr (0, [.null, .null, .null, .int 0, .int 0, .int 0, .int 0, .int 0, .int 0])), (ad13, .inl (ca 1, 4096, .inl ((fun _ => 0))))]) H := hP
  have hD : va_D A ([(h0, .inr (0, [.null, .null, .null, .int 0, .int 0, .int 0, .int 0, .int 0, .int 0])), (ad13, .inl (ca 1, 4096, .inl ((fun _ => 0))))]) := hD
  refine va_putF (D := D) (ci := 0) (v := .ref ad13) (ty := (.array .byte)) (C := RX0) (T := TX0) (N := 9) hx hb hts in_X0 tyX0 tyX0_ok nmX0 hown hK hP hD hS 0 rfl rfl 0 (by decide) (hts _ q98) (fun _ h9 => h9) rfl hnm rfl (by decide +kernel) rfl rfl (Nat.le_of_ble_eq_true rfl) dX0_init_10 (fun H locs hP hD hS => ?_)
  have hP : va_P D vwCl ([(h0, .inr (0, [.ref ad13, .null, .null, .int 0, .int 0, .int 0, .int 0, .int 0, .int 0])), (ad13, .inl (ca 1, 4096, .inl ((fun _ => 0))))]) H := hP
  have hD : va_D A ([(h0, .inr (0, [.ref ad13, .null, .null, .int 0, .int 0, .int 0, .int 0, .int 0, .int 0])), (ad13, .inl (ca 1, 4096, .inl ((fun _ => 0))))]) := hD
  refine lv_aload_n hx hb dX0_init_13 rfl (lv_at hl 0 rfl) ?_
  refine lv_sipush (v := nI 255) hx hb dX0_init_14 (by decide) ?_
  refine n_newa (atype := .byte) (ty := .byte) (N := 255) (a0 := (255, .inl (fun _ => 0))) hx hb (hts _ q54) rfl (fun _ h => h) hK hP hD hS hA 1 rfl (fun _ => rfl) (by decide) (by decide) (Nat.le_of_ble_eq_true rfl) (Nat.le_of_ble_eq_true rfl) dX0_init_17 (fun ad14 H hP hD hS => ?_)
  have hP : va_P D vwCl ([(h0, .inr (0, [.ref ad13, .null, .null, .int 0, .int 0, .int 0, .int 0, .int 0, .int 0])), (ad13, .inl (ca 1, 4096, .inl ((fun _ => 0)))), (ad14, .inl (ca 1, 255, .inl ((fun _ => 0))))]) H := hP
  have hD : va_D A ([(h0, .inr (0, [.ref ad13, .null, .null, .int 0, .int 0, .int 0, .int 0, .int 0, .int 0])), (ad13, .inl (ca 1, 4096, .inl ((fun _ => 0)))), (ad14, .inl (ca 1, 255, .inl ((fun _ => 0))))]) := hD
  refine va_putF (D := D) (ci := 0) (v := .ref ad14) (ty := (.array .byte)) (C := RX0) (T := TX0) (N := 9) hx hb hts in_X0 tyX0 tyX0_ok nmX0 hown hK hP hD hS 0 rfl rfl 1 (by decide) (hts _ q99) (fun _ h9 => h9) rfl hnm rfl (by decide +kernel) rfl rfl (Nat.le_of_ble_eq_true rfl) dX0_init_19 (fun H locs hP hD hS => ?_)
  have hP : va_P D vwCl ([(h0, .inr (0, [.ref ad13, .ref ad14, .null, .int 0, .int 0, .int 0, .int 0, .int 0, .int 0])), (ad13, .inl (ca 1, 4096, .inl ((fun _ => 0)))), (ad14, .inl (ca 1, 255, .inl ((fun _ => 0))))]) H := hP
  have hD : va_D A ([(h0, .inr (0, [.ref ad13, .ref ad14, .null, .int 0, .int 0, .int 0, .int 0, .int 0, .int 0])), (ad13, .inl (ca 1, 4096, .inl ((fun _ => 0)))), (ad14, .inl (ca 1, 255, .inl ((fun _ => 0))))]) := hD
  refine lv_aload_n hx hb dX0_init_22 rfl (lv_at hl 0 rfl) ?_
  refine va_new (ci := 1) (fs := [.null, .null, .null, .null, .null, .null, .null, .int 0, .int 0]) (C := RX1) (T := TX1) (N := 9) hx hb hts in_X1 tyX1 tyX1_ok hown (hts _ q25) (hts _ q26) (hts _ q13) hK hP hD hS hA rfl (fun j hj => by rcases (show j = 0 ∨ j = 1 ∨ j = 2 ∨ j = 3 ∨ j = 4 ∨ j = 5 ∨ j = 6 ∨ j = 7 ∨ j = 8 by omega) with rfl | rfl | rfl | rfl | rfl | rfl | rfl | rfl | rfl <;> rfl) (Nat.le_of_ble_eq_true rfl) (Nat.le_of_ble_eq_true rfl) dX0_init_23 (fun qs H hP hD hS => ?_)
  have hP : va_P D vwCl ([(h0, .inr (0, [.ref ad13, .ref ad14, .null, .int 0, .int 0, .int 0, .int 0, .int 0, .int 0])), (ad13, .inl (ca 1, 4096, .inl ((fun _ => 0)))), (ad14, .inl (ca 1, 255, .inl ((fun _ => 0)))), (qs, .inr (1, [.null, .null, .null, .null, .null, .null, .null, .int 0, .int 0]))]) H := hP
  have hD : va_D A ([(h0, .inr (0, [.ref ad13, .ref ad14, .null, .int 0, .int 0, .int 0, .int 0, .int 0, .int 0])), (ad13, .inl (ca 1, 4096, .inl ((fun _ => 0)))), (ad14, .inl (ca 1, 255, .inl ((fun _ => 0)))), (qs, .inr (1, [.null, .null, .null, .null, .null, .null, .null, .int 0, .int 0]))]) := hD
  refine lv_dup hx hb dX0_init_26 rfl ?_
  refine cINv (wr := [(h0, .inr (0, [.ref ad13, .ref ad14, .null, .int 0, .int 0, .int 0, .int 0, .int 0, .int 0])), (ad13, .inl (ca 1, 4096, .inl ((fun _ => 0)))), (ad14, .inl (ca 1, 255, .inl ((fun _ => 0))))]) (As := []) (rest := [.ref qs, .ref h0]) ⟨hx, hb, hml, hown, hts⟩ (m_sinit l D ca qs) ⟨va_cnB 0 hts (lw_meth q29) rfl rfl rfl hnest (hts _ q13) (by decide +kernel) ⟨Nat.le_of_ble_eq_true rfl, Nat.le_of_ble_eq_true rfl⟩, rfl, (hts _ q28)⟩ hK hP hD hS hA [3] [0, 1, 2] rfl rfl (by decide) (by decide) (by decide) (fun _ _ _ _ _ _ => trivial) (fun _ _ _ => trivial) rfl hl.1 rfl (Nat.le_of_ble_eq_true rfl) dX0_init_27 ⟨Nat.le_of_ble_eq_true rfl, Nat.le_of_ble_eq_true rfl⟩ (fun hs H locs hpo hP hD hS => ?_)
  have hP : va_P D vwCl ([(h0, .inr (0, [.ref ad13, .ref ad14, .null, .int 0, .int 0, .int 0, .int 0, .int 0, .int 0])), (ad13, .inl (ca 1, 4096, .inl ((fun _ => 0)))), (ad14, .inl (ca 1, 255, .inl ((fun _ => 0))))] ++ wSp ca hs (fun _ => 0) (fun _ => 0) (fun _ => 0) (fun _ => 0) (fun _ => 0) (fun _ => 0) 0 0) H := hP
  have hD : va_D A ([(h0, .inr (0, [.ref ad13, .ref ad14, .null, .int 0, .int 0, .int 0, .int 0, .int 0, .int 0])), (ad13, .inl (ca 1, 4096, .inl ((fun _ => 0)))), (ad14, .inl (ca 1, 255, .inl ((fun _ => 0))))] ++ wSp ca hs (fun _ => 0) (fun _ => 0) (fun _ => 0) (fun _ => 0) (fun _ => 0) (fun _ => 0) 0 0) := hD
  have hpo : hs 0 = qs := hpo
  refine W.eq (g2 := F0 m 30 ls [.ref (hs 0), .ref h0]) (by rw [hpo]) ?_
  refine va_putF (D := D) (ci := 0) (v := .ref (hs 0)) (ty := (.object "SpongeDesk$Sponge")) (C := RX0) (T := TX0) (N := 9) hx hb hts in_X0 tyX0 tyX0_ok nmX0 hown hK hP hD hS 0 rfl rfl 2 (by decide) (hts _ q100) (fun _ h9 => h9) rfl hnm rfl (by decide +kernel) rfl rfl (Nat.le_of_ble_eq_true rfl) dX0_init_30 (fun H locs hP hD hS => ?_)
  have hP : va_P D vwCl ([(h0, .inr (0, [.ref ad13, .ref ad14, .ref (hs 0), .int 0, .int 0, .int 0, .int 0, .int 0, .int 0])), (ad13, .inl (ca 1, 4096, .inl ((fun _ => 0)))), (ad14, .inl (ca 1, 255, .inl ((fun _ => 0))))] ++ wSp ca hs (fun _ => 0) (fun _ => 0) (fun _ => 0) (fun _ => 0) (fun _ => 0) (fun _ => 0) 0 0) H := hP
  have hD : va_D A ([(h0, .inr (0, [.ref ad13, .ref ad14, .ref (hs 0), .int 0, .int 0, .int 0, .int 0, .int 0, .int 0])), (ad13, .inl (ca 1, 4096, .inl ((fun _ => 0)))), (ad14, .inl (ca 1, 255, .inl ((fun _ => 0))))] ++ wSp ca hs (fun _ => 0) (fun _ => 0) (fun _ => 0) (fun _ => 0) (fun _ => 0) (fun _ => 0) 0 0) := hD
  have hP : va_P D vwCl (wDk ca (fun k => if k = 12 then h0 else if k = 13 then ad13 else if k = 14 then ad14 else hs k) (fun _ => 0) (fun _ => 0) 0 0 0 0 0 0 (fun _ => 0) (fun _ => 0) (fun _ => 0) (fun _ => 0) (fun _ => 0) (fun _ => 0) 0 0) H := hP
  have hD : va_D A (wDk ca (fun k => if k = 12 then h0 else if k = 13 then ad13 else if k = 14 then ad14 else hs k) (fun _ => 0) (fun _ => 0) 0 0 0 0 0 0 (fun _ => 0) (fun _ => 0) (fun _ => 0) (fun _ => 0) (fun _ => 0) (fun _ => 0) 0 0) := hD
  refine lv_aload_n hx hb dX0_init_33 rfl (lv_at hl 0 rfl) ?_
  refine lv_iconst (v := nI 0) hx hb dX0_init_34 (by decide) ?_
  refine cVv (wr := []) (As := [.int (nI 0)]) (rest := []) ⟨hx, hb, hml, hown, hts⟩ (m_dbegin l D ca (fun k => if k = 12 then h0 else if k = 13 then ad13 else if k = 14 then ad14 else hs k) t1 t2 (fun _ => 0) (fun _ => 0) 0 0 0 0 0 0 (fun _ => 0) (fun _ => 0) (fun _ => 0) (fun _ => 0) (fun _ => 0) (fun _ => 0) 0 0 (nI 0)) (cwV 1 hts (lw_V q84 q85 q86 q12 q87) rfl rfl rfl (by decide +kernel) ⟨Nat.le_of_ble_eq_true rfl, Nat.le_of_ble_eq_true rfl⟩) hK hP hD hS hA [0, 1, 2, 3, 4, 5, 6, 7, 8, 9, 10, 11, 12, 13, 14] [] rfl rfl (by decide) (by decide) (by decide) 0 0 rfl rfl rfl dkX.blind (dkX.at hX hS (va_free (wc := wDk ca (fun k => if k = 12 then h0 else if k = 13 then ad13 else if k = 14 then ad14 else hs k) (fun _ => 0) (fun _ => 0) 0 0 0 0 0 0 (fun _ => 0) (fun _ => 0) (fun _ => 0) (fun _ => 0) (fun _ => 0) (fun _ => 0) 0 0) hD hS hA [0, 1, 2, 3, 4, 5, 6, 7, 8, 9, 10, 11, 12, 13, 14] rfl)) rfl hl.1 rfl (Nat.le_of_ble_eq_true rfl) dX0_init_35 ⟨Nat.le_of_ble_eq_true rfl, Nat.le_of_ble_eq_true rfl⟩ (fun _ H locs hpo hP hD hS => ?_)
  have h60 : cut (nI 0) % 6 = 0 := by decide
  rw [h60] at hP hD
  exact vend hx hb hr hlk (fun k => if k = 12 then h0 else if k = 13 then ad13 else if k = 14 then ad14 else hs k) rfl hP hK hD hS (Nat.le_of_ble_eq_true rfl) (Nat.le_of_ble_eq_true rfl) dX0_init_38
end
section
/-! the reference: small rows for its walks -/
def rng (lo k : Nat) (new old : Nat → Int32) : Nat → Int32 := fun q => if lo ≤ q ∧ q < lo + k then new q else old q
theorem rng_0 {lo : Nat} {new old : Nat → Int32} : rng lo 0 new old = old := by
  funext q
  exact if_neg (by omega)
theorem rng_up {lo k : Nat} {new old : Nat → Int32} {x : Int32} (hx : x = new (lo + k)) (q : Nat) : upd (rng lo k new old) (lo + k) x q = rng lo (k + 1) new old q := by
  show (if q = lo + k then x else if lo ≤ q ∧ q < lo + k then new q else old q) = if lo ≤ q ∧ q < lo + (k + 1) then new q else old q
  by_cases h : q = lo + k
  · rw [if_pos h, if_pos (by omega), hx, h]
  · rw [if_neg h]
    by_cases h2 : lo ≤ q ∧ q < lo + k
    · rw [if_pos h2, if_pos (by omega)]
    · rw [if_neg h2, if_neg (by omega)]
theorem rng_in {lo k : Nat} {new old : Nat → Int32} {q : Nat} (h : lo ≤ q ∧ q < lo + k) : rng lo k new old q = new q := if_pos h
theorem rng_out {lo k : Nat} {new old : Nat → Int32} {q : Nat} (h : ¬ (lo ≤ q ∧ q < lo + k)) : rng lo k new old q = old q := if_neg h
def wsel (a b c d : Int32) (j : Nat) : Int32 := if j < 4 then a else if j < 8 then b else if j < 12 then c else d
def mby (a b c d : Int32) (j : Nat) : Int32 := ((wsel a b c d j).toUInt32 >>> ((nI (24 - 8 * (j % 4))).toUInt32 &&& Int32.toUInt32 31)).toInt32.toInt8.toInt32.toInt8.toInt32
def ixC (q : Nat) : Nat := 5 * (q % 5) + q / 5
theorem ixC_at {x y : Nat} (hx : x < 5) (hy : y < 5) : ixC (5 * y + x) = 5 * x + y := by unfold ixC; omega
theorem ixC_iff {x y : Nat} (hx : x < 5) (hy : y < 5) (q : Nat) (hq : q < 25) : ixC q = 5 * x + y ↔ q = 5 * y + x := by unfold ixC; omega
theorem ixC_lt : ∀ q, q < 25 → ixC q < 25 := by intro q hq; unfold ixC; omega
def ixP (q : Nat) : Nat := ixC (FR q)
theorem ixP_iff {x y : Nat} (hx : x < 5) (hy : y < 5) (q : Nat) (hq : q < 25) : ixP q = 5 * x + y ↔ q = TO (5 * y + x) :=
  (ixC_iff hx hy (FR q) (FR_lt q hq)).trans (FR_TO q hq (5 * y + x) (by omega))
theorem ixP_lt : ∀ q, q < 25 → ixP q < 25 := fun q hq => ixC_lt _ (FR_lt q hq)
theorem updL_same {f : Nat → Int64} {k : Nat} {x : Int64} (h : f k = x) (q : Nat) : f q = vp_updL f k x q := by
  show _ = if q = k then x else f q
  by_cases hq : q = k
  · rw [if_pos hq, hq, h]
  · rw [if_neg hq]
end
section
/-! the reference: mix -/
abbrev rmMm : Room := { frames := 1, cells := 0, slots := 0, locals := 22 }
section MMX
variable {p : Program} {l : Launch} {en : Env} {s : State} {m : MethodId} {args : Array Value} {below : List Frame} {meth : Method} {c : Code} {Q : State → Prop} {D : va_G} {ca : Nat → ClassId} {A : Nat → Prop} {g : Nat → Nat}
set_option maxHeartbeats 1000000 in
set_option maxRecDepth 100000 in
theorem mxA1 (sz fd kd sh op ln : Int32) (tx ft an al : Nat → Int32) (w t cc : Nat → Int64) (r x : Nat) (hx5 : x < 5) (F : Fix p m c cX3_mix 7 s args RX3 A D ca)
    (K : ∀ (H : Heap) (locs : List Loc) (ls : Array Slot), Sta D A s (wMd ca g sz fd kd sh op ln tx ft w t (vp_updL (mid id x (fun x => csL w x 5) cc) x (csL w x 5)) an al) H locs → lv_has ls 7 [(4, .int (nI 5)), (3, .int (nI x)), (2, .int (nI r)), (1, .int (nI (lf (7 * r)))), (0, .ref (g 0))] → W p l en rmMm s m args below meth c H locs 0 0 Q (F0 m 63 ls [])) :
    ∀ (n y : Nat), y ≤ 5 → 5 + 1 ≤ y + n → ∀ (H : Heap) (locs : List Loc) (ls : Array Slot), Sta D A s (wMd ca g sz fd kd sh op ln tx ft w t (vp_updL (mid id x (fun x => csL w x 5) cc) x (csL w x y)) an al) H locs → lv_has ls 7 [(4, .int (nI y)), (3, .int (nI x)), (2, .int (nI r)), (1, .int (nI (lf (7 * r)))), (0, .ref (g 0))] → W p l en rmMm s m args below meth c H locs 0 0 Q (F0 m 27 ls []) := by
  obtain ⟨hx, hb, hml, hown, hts, hA, hK⟩ := F
  intro n
  induction n with
  | zero => intro y h1 h2; omega
  | succ n ih =>
    intro y hi hn H locs ls hst hl
    obtain ⟨hP, hD, hS⟩ := hst
    refine lv_iload hx hb dX3_mix_27 (lv_at hl 0 rfl) ?_
    refine lv_iconst (v := nI 5) hx hb dX3_mix_29 (by decide) ?_
    refine n_ge (tgt := 63) hx hb (by omega) (by omega) dX3_mix_30 (by decide) (fun hc => ?_) (fun hc => ?_)
    ·
      have e5 : y = 5 := by omega
      subst e5
      exact K H locs ls ⟨hP, hD, hS⟩ hl
    ·
      refine lv_aload_n hx hb dX3_mix_33 rfl (lv_at hl 4 rfl) ?_
      refine va_get (D := D) (ci := 3) (v := .ref (g 5)) (C := RX3) (T := TX3) (N := 13) hx hb hts in_X3 hown hK hP 0 rfl rfl 9 (by decide) (hts _ q213) (fun _ h9 => h9) rfl dX3_mix_34 ?_
      refine lv_iload_n hx hb dX3_mix_37 rfl (lv_at hl 1 rfl) ?_
      refine lv_aload_n hx hb dX3_mix_38 rfl (lv_at hl 4 rfl) ?_
      refine va_get (D := D) (ci := 3) (v := .ref (g 5)) (C := RX3) (T := TX3) (N := 13) hx hb hts in_X3 hown hK hP 0 rfl rfl 9 (by decide) (hts _ q213) (fun _ h9 => h9) rfl dX3_mix_39 ?_
      refine lv_iload_n hx hb dX3_mix_42 rfl (lv_at hl 1 rfl) ?_
      refine n_lald (v := csL w x y) hx hb hK hP 5 2 rfl rfl (by omega) (by decide) (updL_self _ _ _) dX3_mix_43 ?_
      refine lv_aload_n hx hb dX3_mix_44 rfl (lv_at hl 4 rfl) ?_
      refine va_get (D := D) (ci := 3) (v := .ref (g 3)) (C := RX3) (T := TX3) (N := 13) hx hb hts in_X3 hown hK hP 0 rfl rfl 7 (by decide) (hts _ q211) (fun _ h9 => h9) rfl dX3_mix_45 ?_
      refine lv_iload_n hx hb dX3_mix_48 rfl (lv_at hl 1 rfl) ?_
      refine lv_iload hx hb dX3_mix_49 (lv_at hl 0 rfl) ?_
      refine cSi (As := [.int (nI x), .int (nI y)]) (rest := [.ref (g 3), .long (csL w x y), .int (nI x), .ref (g 5)]) ⟨hx, hb, hml, hown, hts⟩ (m_at l x y (by omega) (by omega)) (va_cwS 2 hts (lw_S q290 q291 q15 q292) rfl rfl rfl (by decide +kernel) ⟨Nat.le_of_ble_eq_true rfl, Nat.le_of_ble_eq_true rfl⟩) hP hS hA rfl hl.1 rfl (Nat.le_of_ble_eq_true rfl) dX3_mix_51 ⟨Nat.le_of_ble_eq_true rfl, Nat.le_of_ble_eq_true rfl⟩ (fun H locs hP hS => ?_)
      refine n_lald (v := w (5 * y + x)) hx hb hK hP 3 2 rfl rfl (by omega) (by decide) (congrArg w (by omega)) dX3_mix_54 ?_
      refine lv_lxor hx hb dX3_mix_55 ?_
      refine n_last (ws' := wMd ca g sz fd kd sh op ln tx ft w t (vp_updL (mid id x (fun x => csL w x 5) cc) x (csL w x (y + 1))) an al) hx hb hK hP hD hS 5 2 (vp_updL (mid id x (fun x => csL w x 5) cc) x (csL w x (y + 1))) rfl rfl (by omega) (by decide) (fun q _ => updL_updL _ _ _ _ q) rfl dX3_mix_56 (fun H locs hP hD hS => ?_)
      refine lv_iinc (v := nI (y + 1)) (lv' := [(4, .int (nI (y + 1))), (3, .int (nI x)), (2, .int (nI r)), (1, .int (nI (lf (7 * r)))), (0, .ref (g 0))]) hx hb dX3_mix_57 hl (k := 0) rfl (nI_add _ 1) (by decide) rfl (fun ls hl => ?_)
      refine lv_goto (tgt := 27) hx hb dX3_mix_60 (by decide) ?_
      exact ih (y + 1) (by omega) (by omega) H locs ls ⟨hP, hD, hS⟩ hl
set_option maxHeartbeats 1000000 in
set_option maxRecDepth 100000 in
theorem mxA (sz fd kd sh op ln : Int32) (tx ft an al : Nat → Int32) (w t cc : Nat → Int64) (r : Nat) (F : Fix p m c cX3_mix 7 s args RX3 A D ca)
    (K : ∀ (H : Heap) (locs : List Loc) (ls : Array Slot), Sta D A s (wMd ca g sz fd kd sh op ln tx ft w t (mid id 5 (fun x => csL w x 5) cc) an al) H locs → lv_has ls 7 [(3, .int (nI 5)), (2, .int (nI r)), (1, .int (nI (lf (7 * r)))), (0, .ref (g 0))] → W p l en rmMm s m args below meth c H locs 0 0 Q (F0 m 69 ls [])) :
    ∀ (n x : Nat), x ≤ 5 → 5 + 1 ≤ x + n → ∀ (H : Heap) (locs : List Loc) (ls : Array Slot), Sta D A s (wMd ca g sz fd kd sh op ln tx ft w t (mid id x (fun x => csL w x 5) cc) an al) H locs → lv_has ls 7 [(3, .int (nI x)), (2, .int (nI r)), (1, .int (nI (lf (7 * r)))), (0, .ref (g 0))] → W p l en rmMm s m args below meth c H locs 0 0 Q (F0 m 12 ls []) := by
  have F1 := F
  obtain ⟨hx, hb, hml, hown, hts, hA, hK⟩ := F
  intro n
  induction n with
  | zero => intro x h1 h2; omega
  | succ n ih =>
    intro x hi hn H locs ls hst hl
    obtain ⟨hP, hD, hS⟩ := hst
    refine lv_iload_n hx hb dX3_mix_12 rfl (lv_at hl 0 rfl) ?_
    refine lv_iconst (v := nI 5) hx hb dX3_mix_13 (by decide) ?_
    refine n_ge (tgt := 69) hx hb (by omega) (by omega) dX3_mix_14 (by decide) (fun hc => ?_) (fun hc => ?_)
    ·
      have e5 : x = 5 := by omega
      subst e5
      exact K H locs ls ⟨hP, hD, hS⟩ hl
    ·
      refine lv_aload_n hx hb dX3_mix_17 rfl (lv_at hl 3 rfl) ?_
      refine va_get (D := D) (ci := 3) (v := .ref (g 5)) (C := RX3) (T := TX3) (N := 13) hx hb hts in_X3 hown hK hP 0 rfl rfl 9 (by decide) (hts _ q213) (fun _ h9 => h9) rfl dX3_mix_18 ?_
      refine lv_iload_n hx hb dX3_mix_21 rfl (lv_at hl 0 rfl) ?_
      refine lv_lconst (v := 0) hx hb dX3_mix_22 (by decide) ?_
      refine n_last (ws' := wMd ca g sz fd kd sh op ln tx ft w t (vp_updL (mid id x (fun x => csL w x 5) cc) x (csL w x 0)) an al) hx hb hK hP hD hS 5 2 (vp_updL (mid id x (fun x => csL w x 5) cc) x (csL w x 0)) rfl rfl (by omega) (by decide) (fun _ _ => rfl) rfl dX3_mix_23 (fun H locs hP hD hS => ?_)
      refine lv_iconst (v := nI 0) hx hb dX3_mix_24 (by decide) ?_
      refine lv_istore (lv' := [(4, .int (nI 0)), (3, .int (nI x)), (2, .int (nI r)), (1, .int (nI (lf (7 * r)))), (0, .ref (g 0))]) hx hb dX3_mix_25 hl (by decide) rfl (fun ls hl => ?_)
      refine mxA1 sz fd kd sh op ln tx ft an al w t cc r x (by omega) F1 (fun H locs ls hst hl => ?_) 6 0 (by omega) (by omega) H locs ls ⟨hP, hD, hS⟩ hl
      obtain ⟨hP, hD, hS⟩ := hst
      refine lv_iinc (v := nI (x + 1)) (lv' := [(3, .int (nI (x + 1))), (4, .int (nI 5)), (2, .int (nI r)), (1, .int (nI (lf (7 * r)))), (0, .ref (g 0))]) hx hb dX3_mix_63 hl (k := 1) rfl (nI_add _ 1) (by decide) rfl (fun ls hl => ?_)
      refine lv_goto (tgt := 12) hx hb dX3_mix_66 (by decide) ?_
      obtain ⟨hP, hD⟩ := P_fnL (ws' := wMd ca g sz fd kd sh op ln tx ft w t (mid id (x + 1) (fun x => csL w x 5) cc) an al) hP hD 5 (mid id (x + 1) (fun x => csL w x 5) cc) rfl (mid_upL (fun _ _ => Iff.rfl) rfl) rfl
      exact ih (x + 1) (by omega) (by omega) H locs ls ⟨hP, hD, hS⟩ (lv_sub hl [0, 2, 3, 4] rfl)
set_option maxHeartbeats 1000000 in
set_option maxRecDepth 100000 in
theorem mxB1 (sz fd kd sh op ln : Int32) (tx ft an al : Nat → Int32) (w t : Nat → Int64) (r x : Nat) (hx5 : x < 5) (F : Fix p m c cX3_mix 7 s args RX3 A D ca)
    (K : ∀ (H : Heap) (locs : List Loc) (ls : Array Slot), Sta D A s (wMd ca g sz fd kd sh op ln tx ft (mid ixC (5 * x + 5) (thL w) w) t (fun x => csL w x 5) an al) H locs → lv_has ls 7 [(4, .int (nI 5)), (3, .int (nI x)), (2, .int (nI r)), (1, .int (nI (lf (7 * r)))), (0, .ref (g 0))] → W p l en rmMm s m args below meth c H locs 0 0 Q (F0 m 139 ls [])) :
    ∀ (n y : Nat), y ≤ 5 → 5 + 1 ≤ y + n → ∀ (H : Heap) (locs : List Loc) (ls : Array Slot), Sta D A s (wMd ca g sz fd kd sh op ln tx ft (mid ixC (5 * x + y) (thL w) w) t (fun x => csL w x 5) an al) H locs → lv_has ls 7 [(4, .int (nI y)), (3, .int (nI x)), (2, .int (nI r)), (1, .int (nI (lf (7 * r)))), (0, .ref (g 0))] → W p l en rmMm s m args below meth c H locs 0 0 Q (F0 m 79 ls []) := by
  obtain ⟨hx, hb, hml, hown, hts, hA, hK⟩ := F
  intro n
  induction n with
  | zero => intro y h1 h2; omega
  | succ n ih =>
    intro y hi hn H locs ls hst hl
    obtain ⟨hP, hD, hS⟩ := hst
    refine lv_iload hx hb dX3_mix_79 (lv_at hl 0 rfl) ?_
    refine lv_iconst (v := nI 5) hx hb dX3_mix_81 (by decide) ?_
    refine n_ge (tgt := 139) hx hb (by omega) (by omega) dX3_mix_82 (by decide) (fun hc => ?_) (fun hc => ?_)
    ·
      have e5 : y = 5 := by omega
      subst e5
      exact K H locs ls ⟨hP, hD, hS⟩ hl
    ·
      refine lv_aload_n hx hb dX3_mix_85 rfl (lv_at hl 4 rfl) ?_
      refine va_get (D := D) (ci := 3) (v := .ref (g 3)) (C := RX3) (T := TX3) (N := 13) hx hb hts in_X3 hown hK hP 0 rfl rfl 7 (by decide) (hts _ q211) (fun _ h9 => h9) rfl dX3_mix_86 ?_
      refine lv_iload_n hx hb dX3_mix_89 rfl (lv_at hl 1 rfl) ?_
      refine lv_iload hx hb dX3_mix_90 (lv_at hl 0 rfl) ?_
      refine cSi (As := [.int (nI x), .int (nI y)]) (rest := [.ref (g 3)]) ⟨hx, hb, hml, hown, hts⟩ (m_at l x y (by omega) (by omega)) (va_cwS 2 hts (lw_S q290 q291 q15 q292) rfl rfl rfl (by decide +kernel) ⟨Nat.le_of_ble_eq_true rfl, Nat.le_of_ble_eq_true rfl⟩) hP hS hA rfl hl.1 rfl (Nat.le_of_ble_eq_true rfl) dX3_mix_92 ⟨Nat.le_of_ble_eq_true rfl, Nat.le_of_ble_eq_true rfl⟩ (fun H locs hP hS => ?_)
      refine tpi (y := nI (5 * y + x)) (congrArg nI (by omega)) ?_
      refine lv_aload_n hx hb dX3_mix_95 rfl (lv_at hl 4 rfl) ?_
      refine va_get (D := D) (ci := 3) (v := .ref (g 3)) (C := RX3) (T := TX3) (N := 13) hx hb hts in_X3 hown hK hP 0 rfl rfl 7 (by decide) (hts _ q211) (fun _ h9 => h9) rfl dX3_mix_96 ?_
      refine lv_iload_n hx hb dX3_mix_99 rfl (lv_at hl 1 rfl) ?_
      refine lv_iload hx hb dX3_mix_100 (lv_at hl 0 rfl) ?_
      refine cSi (As := [.int (nI x), .int (nI y)]) (rest := [.ref (g 3), .int (nI (5 * y + x)), .ref (g 3)]) ⟨hx, hb, hml, hown, hts⟩ (m_at l x y (by omega) (by omega)) (va_cwS 2 hts (lw_S q290 q291 q15 q292) rfl rfl rfl (by decide +kernel) ⟨Nat.le_of_ble_eq_true rfl, Nat.le_of_ble_eq_true rfl⟩) hP hS hA rfl hl.1 rfl (Nat.le_of_ble_eq_true rfl) dX3_mix_102 ⟨Nat.le_of_ble_eq_true rfl, Nat.le_of_ble_eq_true rfl⟩ (fun H locs hP hS => ?_)
      refine tpi (y := nI (5 * y + x)) (congrArg nI (by omega)) ?_
      refine n_lald (v := w (5 * y + x)) hx hb hK hP 3 2 rfl rfl (by omega) (by decide) (mid_at (ixC_at hx5 (by omega))) dX3_mix_105 ?_
      refine lv_aload_n hx hb dX3_mix_106 rfl (lv_at hl 4 rfl) ?_
      refine va_get (D := D) (ci := 3) (v := .ref (g 5)) (C := RX3) (T := TX3) (N := 13) hx hb hts in_X3 hown hK hP 0 rfl rfl 9 (by decide) (hts _ q213) (fun _ h9 => h9) rfl dX3_mix_107 ?_
      refine lv_iload_n hx hb dX3_mix_110 rfl (lv_at hl 1 rfl) ?_
      refine lv_iconst (v := nI 4) hx hb dX3_mix_111 (by decide) ?_
      refine n_add hx hb dX3_mix_112 ?_
      refine lv_iconst (v := nI 5) hx hb dX3_mix_113 (by decide) ?_
      refine n_rem hx hb (by omega) (by omega) (by omega) dX3_mix_114 ?_
      refine n_lald (v := csL w ((x + 4) % 5) 5) hx hb hK hP 5 2 rfl rfl (by omega) (by decide) (rfl) dX3_mix_115 ?_
      refine lv_lxor hx hb dX3_mix_116 ?_
      refine lv_aload_n hx hb dX3_mix_117 rfl (lv_at hl 4 rfl) ?_
      refine va_get (D := D) (ci := 3) (v := .ref (g 5)) (C := RX3) (T := TX3) (N := 13) hx hb hts in_X3 hown hK hP 0 rfl rfl 9 (by decide) (hts _ q213) (fun _ h9 => h9) rfl dX3_mix_118 ?_
      refine lv_iload_n hx hb dX3_mix_121 rfl (lv_at hl 1 rfl) ?_
      refine lv_iconst (v := nI 1) hx hb dX3_mix_122 (by decide) ?_
      refine n_add hx hb dX3_mix_123 ?_
      refine lv_iconst (v := nI 5) hx hb dX3_mix_124 (by decide) ?_
      refine n_rem hx hb (by omega) (by omega) (by omega) dX3_mix_125 ?_
      refine n_lald (v := csL w ((x + 1) % 5) 5) hx hb hK hP 5 2 rfl rfl (by omega) (by decide) (rfl) dX3_mix_126 ?_
      refine lv_iconst (v := nI 1) hx hb dX3_mix_127 (by decide) ?_
      refine cSl (As := [.long (csL w ((x + 1) % 5) 5), .int (nI 1)]) (rest := [.long ((w (5 * y + x)) ^^^ (csL w ((x + 4) % 5) 5)), .int (nI (5 * y + x)), .ref (g 3)]) ⟨hx, hb, hml, hown, hts⟩ (m_turn l _ 1 (by decide)) (va_cwS 2 hts (lw_S q293 q294 q15 q295) rfl rfl rfl (by decide +kernel) ⟨Nat.le_of_ble_eq_true rfl, Nat.le_of_ble_eq_true rfl⟩) hP hS hA rfl hl.1 rfl (Nat.le_of_ble_eq_true rfl) dX3_mix_128 ⟨Nat.le_of_ble_eq_true rfl, Nat.le_of_ble_eq_true rfl⟩ (fun H locs hP hS => ?_)
      refine lv_lxor hx hb dX3_mix_131 ?_
      refine n_last (ws' := wMd ca g sz fd kd sh op ln tx ft (mid ixC (5 * x + (y + 1)) (thL w) w) t (fun x => csL w x 5) an al) hx hb hK hP hD hS 3 2 (mid ixC (5 * x + (y + 1)) (thL w) w) rfl rfl (by omega) (by decide) (mid_upL (ixC_iff hx5 (by omega)) (by unfold thL; rw [show (5 * y + x) % 5 = x by omega])) rfl dX3_mix_132 (fun H locs hP hD hS => ?_)
      refine lv_iinc (v := nI (y + 1)) (lv' := [(4, .int (nI (y + 1))), (3, .int (nI x)), (2, .int (nI r)), (1, .int (nI (lf (7 * r)))), (0, .ref (g 0))]) hx hb dX3_mix_133 hl (k := 0) rfl (nI_add _ 1) (by decide) rfl (fun ls hl => ?_)
      refine lv_goto (tgt := 79) hx hb dX3_mix_136 (by decide) ?_
      exact ih (y + 1) (by omega) (by omega) H locs ls ⟨hP, hD, hS⟩ hl
set_option maxHeartbeats 1000000 in
set_option maxRecDepth 100000 in
theorem mxB (sz fd kd sh op ln : Int32) (tx ft an al : Nat → Int32) (w t : Nat → Int64) (r : Nat) (F : Fix p m c cX3_mix 7 s args RX3 A D ca)
    (K : ∀ (H : Heap) (locs : List Loc) (ls : Array Slot), Sta D A s (wMd ca g sz fd kd sh op ln tx ft (mid ixC (5 * 5) (thL w) w) t (fun x => csL w x 5) an al) H locs → lv_has ls 7 [(3, .int (nI 5)), (2, .int (nI r)), (1, .int (nI (lf (7 * r)))), (0, .ref (g 0))] → W p l en rmMm s m args below meth c H locs 0 0 Q (F0 m 145 ls [])) :
    ∀ (n x : Nat), x ≤ 5 → 5 + 1 ≤ x + n → ∀ (H : Heap) (locs : List Loc) (ls : Array Slot), Sta D A s (wMd ca g sz fd kd sh op ln tx ft (mid ixC (5 * x) (thL w) w) t (fun x => csL w x 5) an al) H locs → lv_has ls 7 [(3, .int (nI x)), (2, .int (nI r)), (1, .int (nI (lf (7 * r)))), (0, .ref (g 0))] → W p l en rmMm s m args below meth c H locs 0 0 Q (F0 m 71 ls []) := by
  have F1 := F
  obtain ⟨hx, hb, hml, hown, hts, hA, hK⟩ := F
  intro n
  induction n with
  | zero => intro x h1 h2; omega
  | succ n ih =>
    intro x hi hn H locs ls hst hl
    obtain ⟨hP, hD, hS⟩ := hst
    refine lv_iload_n hx hb dX3_mix_71 rfl (lv_at hl 0 rfl) ?_
    refine lv_iconst (v := nI 5) hx hb dX3_mix_72 (by decide) ?_
    refine n_ge (tgt := 145) hx hb (by omega) (by omega) dX3_mix_73 (by decide) (fun hc => ?_) (fun hc => ?_)
    ·
      have e5 : x = 5 := by omega
      subst e5
      exact K H locs ls ⟨hP, hD, hS⟩ hl
    ·
      refine lv_iconst (v := nI 0) hx hb dX3_mix_76 (by decide) ?_
      refine lv_istore (lv' := [(4, .int (nI 0)), (3, .int (nI x)), (2, .int (nI r)), (1, .int (nI (lf (7 * r)))), (0, .ref (g 0))]) hx hb dX3_mix_77 hl (by decide) rfl (fun ls hl => ?_)
      refine mxB1 sz fd kd sh op ln tx ft an al w t r x (by omega) F1 (fun H locs ls hst hl => ?_) 6 0 (by omega) (by omega) H locs ls ⟨hP, hD, hS⟩ hl
      obtain ⟨hP, hD, hS⟩ := hst
      refine lv_iinc (v := nI (x + 1)) (lv' := [(3, .int (nI (x + 1))), (4, .int (nI 5)), (2, .int (nI r)), (1, .int (nI (lf (7 * r)))), (0, .ref (g 0))]) hx hb dX3_mix_139 hl (k := 1) rfl (nI_add _ 1) (by decide) rfl (fun ls hl => ?_)
      refine lv_goto (tgt := 71) hx hb dX3_mix_142 (by decide) ?_
      have e5 : 5 * x + 5 = 5 * (x + 1) := by omega
      rw [e5] at hP hD
      exact ih (x + 1) (by omega) (by omega) H locs ls ⟨hP, hD, hS⟩ (lv_sub hl [0, 2, 3, 4] rfl)
set_option maxHeartbeats 1000000 in
set_option maxRecDepth 100000 in
theorem mxC (sz fd kd sh op ln : Int32) (tx ft an al : Nat → Int32) (w t cc : Nat → Int64) (r : Nat) (F : Fix p m c cX3_mix 7 s args RX3 A D ca)
    (K : ∀ (H : Heap) (locs : List Loc) (ls : Array Slot), Sta D A s (wMd ca g sz fd kd sh op ln tx ft (mid ORc 24 (rhL w) w) t cc an al) H locs → lv_has ls 7 [(5, .int (nI 24)), (4, .int (nI ((pq 24).2))), (3, .int (nI ((pq 24).1))), (2, .int (nI r)), (1, .int (nI (lf (7 * r)))), (0, .ref (g 0))] → W p l en rmMm s m args below meth c H locs 0 0 Q (F0 m 224 ls [])) :
    ∀ (n k : Nat), k ≤ 24 → 24 + 1 ≤ k + n → ∀ (H : Heap) (locs : List Loc) (ls : Array Slot), Sta D A s (wMd ca g sz fd kd sh op ln tx ft (mid ORc k (rhL w) w) t cc an al) H locs → lv_has ls 7 [(5, .int (nI k)), (4, .int (nI ((pq k).2))), (3, .int (nI ((pq k).1))), (2, .int (nI r)), (1, .int (nI (lf (7 * r)))), (0, .ref (g 0))] → W p l en rmMm s m args below meth c H locs 0 0 Q (F0 m 153 ls []) := by
  obtain ⟨hx, hb, hml, hown, hts, hA, hK⟩ := F
  intro n
  induction n with
  | zero => intro k h1 h2; omega
  | succ n ih =>
    intro k hi hn H locs ls hst hl
    obtain ⟨hP, hD, hS⟩ := hst
    refine lv_iload hx hb dX3_mix_153 (lv_at hl 0 rfl) ?_
    refine lv_bipush (v := nI 24) hx hb dX3_mix_155 (by decide) ?_
    refine n_ge (tgt := 224) hx hb (by omega) (by omega) dX3_mix_157 (by decide) (fun hc => ?_) (fun hc => ?_)
    ·
      have e5 : k = 24 := by omega
      subst e5
      exact K H locs ls ⟨hP, hD, hS⟩ hl
    ·
      obtain ⟨hq1, hq2⟩ := pq_lt k (by omega)
      have hmul : (k + 1) * (k + 2) < 2 ^ 31 := Nat.lt_of_le_of_lt (Nat.mul_le_mul (show k + 1 ≤ 24 by omega) (show k + 2 ≤ 25 by omega)) (by decide)
      refine lv_aload_n hx hb dX3_mix_160 rfl (lv_at hl 5 rfl) ?_
      refine va_get (D := D) (ci := 3) (v := .ref (g 3)) (C := RX3) (T := TX3) (N := 13) hx hb hts in_X3 hown hK hP 0 rfl rfl 7 (by decide) (hts _ q211) (fun _ h9 => h9) rfl dX3_mix_161 ?_
      refine lv_iload_n hx hb dX3_mix_164 rfl (lv_at hl 2 rfl) ?_
      refine lv_iload hx hb dX3_mix_165 (lv_at hl 1 rfl) ?_
      refine cSi (As := [.int (nI ((pq k).1)), .int (nI ((pq k).2))]) (rest := [.ref (g 3)]) ⟨hx, hb, hml, hown, hts⟩ (m_at l ((pq k).1) ((pq k).2) (by omega) (by omega)) (va_cwS 2 hts (lw_S q290 q291 q15 q292) rfl rfl rfl (by decide +kernel) ⟨Nat.le_of_ble_eq_true rfl, Nat.le_of_ble_eq_true rfl⟩) hP hS hA rfl hl.1 rfl (Nat.le_of_ble_eq_true rfl) dX3_mix_167 ⟨Nat.le_of_ble_eq_true rfl, Nat.le_of_ble_eq_true rfl⟩ (fun H locs hP hS => ?_)
      refine tpi (y := nI ((pq k).1 + 5 * (pq k).2)) (congrArg nI (by omega)) ?_
      refine lv_aload_n hx hb dX3_mix_170 rfl (lv_at hl 5 rfl) ?_
      refine va_get (D := D) (ci := 3) (v := .ref (g 3)) (C := RX3) (T := TX3) (N := 13) hx hb hts in_X3 hown hK hP 0 rfl rfl 7 (by decide) (hts _ q211) (fun _ h9 => h9) rfl dX3_mix_171 ?_
      refine lv_iload_n hx hb dX3_mix_174 rfl (lv_at hl 2 rfl) ?_
      refine lv_iload hx hb dX3_mix_175 (lv_at hl 1 rfl) ?_
      refine cSi (As := [.int (nI ((pq k).1)), .int (nI ((pq k).2))]) (rest := [.ref (g 3), .int (nI ((pq k).1 + 5 * (pq k).2)), .ref (g 3)]) ⟨hx, hb, hml, hown, hts⟩ (m_at l ((pq k).1) ((pq k).2) (by omega) (by omega)) (va_cwS 2 hts (lw_S q290 q291 q15 q292) rfl rfl rfl (by decide +kernel) ⟨Nat.le_of_ble_eq_true rfl, Nat.le_of_ble_eq_true rfl⟩) hP hS hA rfl hl.1 rfl (Nat.le_of_ble_eq_true rfl) dX3_mix_177 ⟨Nat.le_of_ble_eq_true rfl, Nat.le_of_ble_eq_true rfl⟩ (fun H locs hP hS => ?_)
      refine tpi (y := nI ((pq k).1 + 5 * (pq k).2)) (congrArg nI (by omega)) ?_
      refine n_lald (v := w ((pq k).1 + 5 * (pq k).2)) hx hb hK hP 3 2 rfl rfl (by omega) (by decide) (mid_at ((OR_pq _ (by omega) k (by omega)).mpr rfl)) dX3_mix_180 ?_
      refine lv_iload hx hb dX3_mix_181 (lv_at hl 0 rfl) ?_
      refine lv_iconst (v := nI 1) hx hb dX3_mix_183 (by decide) ?_
      refine n_add hx hb dX3_mix_184 ?_
      refine lv_iload hx hb dX3_mix_185 (lv_at hl 0 rfl) ?_
      refine lv_iconst (v := nI 2) hx hb dX3_mix_187 (by decide) ?_
      refine n_add hx hb dX3_mix_188 ?_
      refine n_mul hx hb dX3_mix_189 ?_
      refine lv_iconst (v := nI 2) hx hb dX3_mix_190 (by decide) ?_
      refine n_div hx hb (by omega) (by omega) (by omega) dX3_mix_191 ?_
      refine lv_bipush (v := nI 64) hx hb dX3_mix_192 (by decide) ?_
      refine n_rem hx hb (by omega) (by omega) (by omega) dX3_mix_194 ?_
      refine cSl (As := [.long (w ((pq k).1 + 5 * (pq k).2)), .int (nI ((((k + 1) * (k + 2)) / 2) % 64))]) (rest := [.int (nI ((pq k).1 + 5 * (pq k).2)), .ref (g 3)]) ⟨hx, hb, hml, hown, hts⟩ (m_turn l _ ((k + 1) * (k + 2) / 2 % 64) (by omega)) (va_cwS 2 hts (lw_S q293 q294 q15 q295) rfl rfl rfl (by decide +kernel) ⟨Nat.le_of_ble_eq_true rfl, Nat.le_of_ble_eq_true rfl⟩) hP hS hA rfl hl.1 rfl (Nat.le_of_ble_eq_true rfl) dX3_mix_195 ⟨Nat.le_of_ble_eq_true rfl, Nat.le_of_ble_eq_true rfl⟩ (fun H locs hP hS => ?_)
      refine n_last (ws' := wMd ca g sz fd kd sh op ln tx ft (mid ORc (k + 1) (rhL w) w) t cc an al) hx hb hK hP hD hS 3 2 (mid ORc (k + 1) (rhL w) w) rfl rfl (by omega) (by decide) (mid_upL (fun q hq => OR_pq q hq k (by omega)) (by unfold rhL; rw [pq_TT k (by omega)])) rfl dX3_mix_198 (fun H locs hP hD hS => ?_)
      refine lv_iload_n hx hb dX3_mix_199 rfl (lv_at hl 2 rfl) ?_
      refine lv_istore (lv' := [(6, .int (nI ((pq k).1))), (5, .int (nI k)), (4, .int (nI ((pq k).2))), (3, .int (nI ((pq k).1))), (2, .int (nI r)), (1, .int (nI (lf (7 * r)))), (0, .ref (g 0))]) hx hb dX3_mix_200 hl (by decide) rfl (fun ls hl => ?_)
      refine lv_iload hx hb dX3_mix_202 (lv_at hl 2 rfl) ?_
      refine lv_istore_n (lv' := [(3, .int (nI ((pq k).2))), (6, .int (nI ((pq k).1))), (5, .int (nI k)), (4, .int (nI ((pq k).2))), (2, .int (nI r)), (1, .int (nI (lf (7 * r)))), (0, .ref (g 0))]) hx hb dX3_mix_204 rfl hl (by decide) rfl (fun ls hl => ?_)
      refine lv_iconst (v := nI 2) hx hb dX3_mix_205 (by decide) ?_
      refine lv_iload hx hb dX3_mix_206 (lv_at hl 1 rfl) ?_
      refine n_mul hx hb dX3_mix_208 ?_
      refine lv_iconst (v := nI 3) hx hb dX3_mix_209 (by decide) ?_
      refine lv_iload hx hb dX3_mix_210 (lv_at hl 3 rfl) ?_
      refine n_mul hx hb dX3_mix_212 ?_
      refine n_add hx hb dX3_mix_213 ?_
      refine lv_iconst (v := nI 5) hx hb dX3_mix_214 (by decide) ?_
      refine n_rem hx hb (by omega) (by omega) (by omega) dX3_mix_215 ?_
      refine lv_istore (lv' := [(4, .int (nI (((2 * ((pq k).1)) + (3 * ((pq k).2))) % 5))), (3, .int (nI ((pq k).2))), (6, .int (nI ((pq k).1))), (5, .int (nI k)), (2, .int (nI r)), (1, .int (nI (lf (7 * r)))), (0, .ref (g 0))]) hx hb dX3_mix_216 hl (by decide) rfl (fun ls hl => ?_)
      refine lv_iinc (v := nI (k + 1)) (lv' := [(5, .int (nI (k + 1))), (4, .int (nI (((2 * ((pq k).1)) + (3 * ((pq k).2))) % 5))), (3, .int (nI ((pq k).2))), (6, .int (nI ((pq k).1))), (2, .int (nI r)), (1, .int (nI (lf (7 * r)))), (0, .ref (g 0))]) hx hb dX3_mix_218 hl (k := 3) rfl (nI_add _ 1) (by decide) rfl (fun ls hl => ?_)
      refine lv_goto (tgt := 153) hx hb dX3_mix_221 (by decide) ?_
      exact ih (k + 1) (by omega) (by omega) H locs ls ⟨hP, hD, hS⟩ (lv_sub hl [0, 1, 2, 4, 5, 6] rfl)
set_option maxHeartbeats 1000000 in
set_option maxRecDepth 100000 in
theorem mxD1 (sz fd kd sh op ln : Int32) (tx ft an al : Nat → Int32) (w t cc : Nat → Int64) (r x : Nat) (hx5 : x < 5) (F : Fix p m c cX3_mix 7 s args RX3 A D ca)
    (K : ∀ (H : Heap) (locs : List Loc) (ls : Array Slot), Sta D A s (wMd ca g sz fd kd sh op ln tx ft w (mid ixP (5 * x + 5) (piL w) t) cc an al) H locs → lv_has ls 7 [(6, .int (nI 5)), (5, .int (nI x)), (2, .int (nI r)), (1, .int (nI (lf (7 * r)))), (0, .ref (g 0))] → W p l en rmMm s m args below meth c H locs 0 0 Q (F0 m 279 ls [])) :
    ∀ (n y : Nat), y ≤ 5 → 5 + 1 ≤ y + n → ∀ (H : Heap) (locs : List Loc) (ls : Array Slot), Sta D A s (wMd ca g sz fd kd sh op ln tx ft w (mid ixP (5 * x + y) (piL w) t) cc an al) H locs → lv_has ls 7 [(6, .int (nI y)), (5, .int (nI x)), (2, .int (nI r)), (1, .int (nI (lf (7 * r)))), (0, .ref (g 0))] → W p l en rmMm s m args below meth c H locs 0 0 Q (F0 m 236 ls []) := by
  obtain ⟨hx, hb, hml, hown, hts, hA, hK⟩ := F
  intro n
  induction n with
  | zero => intro y h1 h2; omega
  | succ n ih =>
    intro y hi hn H locs ls hst hl
    obtain ⟨hP, hD, hS⟩ := hst
    refine lv_iload hx hb dX3_mix_236 (lv_at hl 0 rfl) ?_
    refine lv_iconst (v := nI 5) hx hb dX3_mix_238 (by decide) ?_
    refine n_ge (tgt := 279) hx hb (by omega) (by omega) dX3_mix_239 (by decide) (fun hc => ?_) (fun hc => ?_)
    ·
      have e5 : y = 5 := by omega
      subst e5
      exact K H locs ls ⟨hP, hD, hS⟩ hl
    ·
      have hto := TO_lt (5 * y + x) (by omega)
      refine lv_aload_n hx hb dX3_mix_242 rfl (lv_at hl 4 rfl) ?_
      refine va_get (D := D) (ci := 3) (v := .ref (g 4)) (C := RX3) (T := TX3) (N := 13) hx hb hts in_X3 hown hK hP 0 rfl rfl 8 (by decide) (hts _ q212) (fun _ h9 => h9) rfl dX3_mix_243 ?_
      refine lv_iload hx hb dX3_mix_246 (lv_at hl 0 rfl) ?_
      refine lv_iconst (v := nI 2) hx hb dX3_mix_248 (by decide) ?_
      refine lv_iload hx hb dX3_mix_249 (lv_at hl 1 rfl) ?_
      refine n_mul hx hb dX3_mix_251 ?_
      refine lv_iconst (v := nI 3) hx hb dX3_mix_252 (by decide) ?_
      refine lv_iload hx hb dX3_mix_253 (lv_at hl 0 rfl) ?_
      refine n_mul hx hb dX3_mix_255 ?_
      refine n_add hx hb dX3_mix_256 ?_
      refine cSi (As := [.int (nI y), .int (nI ((2 * x) + (3 * y)))]) (rest := [.ref (g 4)]) ⟨hx, hb, hml, hown, hts⟩ (m_at l y (2 * x + 3 * y) (by omega) (by omega)) (va_cwS 2 hts (lw_S q290 q291 q15 q292) rfl rfl rfl (by decide +kernel) ⟨Nat.le_of_ble_eq_true rfl, Nat.le_of_ble_eq_true rfl⟩) hP hS hA rfl hl.1 rfl (Nat.le_of_ble_eq_true rfl) dX3_mix_257 ⟨Nat.le_of_ble_eq_true rfl, Nat.le_of_ble_eq_true rfl⟩ (fun H locs hP hS => ?_)
      refine tpi (y := nI (TO (5 * y + x))) (congrArg nI (by unfold TO; rw [show (5 * y + x) / 5 = y by omega, show (5 * y + x) % 5 = x by omega]; omega)) ?_
      refine lv_aload_n hx hb dX3_mix_260 rfl (lv_at hl 4 rfl) ?_
      refine va_get (D := D) (ci := 3) (v := .ref (g 3)) (C := RX3) (T := TX3) (N := 13) hx hb hts in_X3 hown hK hP 0 rfl rfl 7 (by decide) (hts _ q211) (fun _ h9 => h9) rfl dX3_mix_261 ?_
      refine lv_iload hx hb dX3_mix_264 (lv_at hl 1 rfl) ?_
      refine lv_iload hx hb dX3_mix_266 (lv_at hl 0 rfl) ?_
      refine cSi (As := [.int (nI x), .int (nI y)]) (rest := [.ref (g 3), .int (nI (TO (5 * y + x))), .ref (g 4)]) ⟨hx, hb, hml, hown, hts⟩ (m_at l x y (by omega) (by omega)) (va_cwS 2 hts (lw_S q290 q291 q15 q292) rfl rfl rfl (by decide +kernel) ⟨Nat.le_of_ble_eq_true rfl, Nat.le_of_ble_eq_true rfl⟩) hP hS hA rfl hl.1 rfl (Nat.le_of_ble_eq_true rfl) dX3_mix_268 ⟨Nat.le_of_ble_eq_true rfl, Nat.le_of_ble_eq_true rfl⟩ (fun H locs hP hS => ?_)
      refine tpi (y := nI (5 * y + x)) (congrArg nI (by omega)) ?_
      refine n_lald (v := w (5 * y + x)) hx hb hK hP 3 2 rfl rfl (by omega) (by decide) (rfl) dX3_mix_271 ?_
      refine n_last (ws' := wMd ca g sz fd kd sh op ln tx ft w (mid ixP (5 * x + (y + 1)) (piL w) t) cc an al) hx hb hK hP hD hS 4 2 (mid ixP (5 * x + (y + 1)) (piL w) t) rfl rfl (by omega) (by decide) (mid_upL (ixP_iff hx5 (by omega)) (by unfold piL; rw [(FR_TO _ hto (5 * y + x) (by omega)).mpr rfl])) rfl dX3_mix_272 (fun H locs hP hD hS => ?_)
      refine lv_iinc (v := nI (y + 1)) (lv' := [(6, .int (nI (y + 1))), (5, .int (nI x)), (2, .int (nI r)), (1, .int (nI (lf (7 * r)))), (0, .ref (g 0))]) hx hb dX3_mix_273 hl (k := 0) rfl (nI_add _ 1) (by decide) rfl (fun ls hl => ?_)
      refine lv_goto (tgt := 236) hx hb dX3_mix_276 (by decide) ?_
      exact ih (y + 1) (by omega) (by omega) H locs ls ⟨hP, hD, hS⟩ hl
set_option maxHeartbeats 1000000 in
set_option maxRecDepth 100000 in
theorem mxD (sz fd kd sh op ln : Int32) (tx ft an al : Nat → Int32) (w t cc : Nat → Int64) (r : Nat) (F : Fix p m c cX3_mix 7 s args RX3 A D ca)
    (K : ∀ (H : Heap) (locs : List Loc) (ls : Array Slot), Sta D A s (wMd ca g sz fd kd sh op ln tx ft w (mid ixP (5 * 5) (piL w) t) cc an al) H locs → lv_has ls 7 [(5, .int (nI 5)), (2, .int (nI r)), (1, .int (nI (lf (7 * r)))), (0, .ref (g 0))] → W p l en rmMm s m args below meth c H locs 0 0 Q (F0 m 285 ls [])) :
    ∀ (n x : Nat), x ≤ 5 → 5 + 1 ≤ x + n → ∀ (H : Heap) (locs : List Loc) (ls : Array Slot), Sta D A s (wMd ca g sz fd kd sh op ln tx ft w (mid ixP (5 * x) (piL w) t) cc an al) H locs → lv_has ls 7 [(5, .int (nI x)), (2, .int (nI r)), (1, .int (nI (lf (7 * r)))), (0, .ref (g 0))] → W p l en rmMm s m args below meth c H locs 0 0 Q (F0 m 227 ls []) := by
  have F1 := F
  obtain ⟨hx, hb, hml, hown, hts, hA, hK⟩ := F
  intro n
  induction n with
  | zero => intro x h1 h2; omega
  | succ n ih =>
    intro x hi hn H locs ls hst hl
    obtain ⟨hP, hD, hS⟩ := hst
    refine lv_iload hx hb dX3_mix_227 (lv_at hl 0 rfl) ?_
    refine lv_iconst (v := nI 5) hx hb dX3_mix_229 (by decide) ?_
    refine n_ge (tgt := 285) hx hb (by omega) (by omega) dX3_mix_230 (by decide) (fun hc => ?_) (fun hc => ?_)
    ·
      have e5 : x = 5 := by omega
      subst e5
      exact K H locs ls ⟨hP, hD, hS⟩ hl
    ·
      refine lv_iconst (v := nI 0) hx hb dX3_mix_233 (by decide) ?_
      refine lv_istore (lv' := [(6, .int (nI 0)), (5, .int (nI x)), (2, .int (nI r)), (1, .int (nI (lf (7 * r)))), (0, .ref (g 0))]) hx hb dX3_mix_234 hl (by decide) rfl (fun ls hl => ?_)
      refine mxD1 sz fd kd sh op ln tx ft an al w t cc r x (by omega) F1 (fun H locs ls hst hl => ?_) 6 0 (by omega) (by omega) H locs ls ⟨hP, hD, hS⟩ hl
      obtain ⟨hP, hD, hS⟩ := hst
      refine lv_iinc (v := nI (x + 1)) (lv' := [(5, .int (nI (x + 1))), (6, .int (nI 5)), (2, .int (nI r)), (1, .int (nI (lf (7 * r)))), (0, .ref (g 0))]) hx hb dX3_mix_279 hl (k := 1) rfl (nI_add _ 1) (by decide) rfl (fun ls hl => ?_)
      refine lv_goto (tgt := 227) hx hb dX3_mix_282 (by decide) ?_
      have e5 : 5 * x + 5 = 5 * (x + 1) := by omega
      rw [e5] at hP hD
      exact ih (x + 1) (by omega) (by omega) H locs ls ⟨hP, hD, hS⟩ (lv_sub hl [0, 2, 3, 4] rfl)
set_option maxHeartbeats 1000000 in
set_option maxRecDepth 100000 in
theorem mxE1 (sz fd kd sh op ln : Int32) (tx ft an al : Nat → Int32) (w t cc : Nat → Int64) (r x : Nat) (hx5 : x < 5) (F : Fix p m c cX3_mix 7 s args RX3 A D ca)
    (K : ∀ (H : Heap) (locs : List Loc) (ls : Array Slot), Sta D A s (wMd ca g sz fd kd sh op ln tx ft (mid ixC (5 * x + 5) (chL t) w) t cc an al) H locs → lv_has ls 7 [(6, .int (nI 5)), (5, .int (nI x)), (2, .int (nI r)), (1, .int (nI (lf (7 * r)))), (0, .ref (g 0))] → W p l en rmMm s m args below meth c H locs 0 0 Q (F0 m 367 ls [])) :
    ∀ (n y : Nat), y ≤ 5 → 5 + 1 ≤ y + n → ∀ (H : Heap) (locs : List Loc) (ls : Array Slot), Sta D A s (wMd ca g sz fd kd sh op ln tx ft (mid ixC (5 * x + y) (chL t) w) t cc an al) H locs → lv_has ls 7 [(6, .int (nI y)), (5, .int (nI x)), (2, .int (nI r)), (1, .int (nI (lf (7 * r)))), (0, .ref (g 0))] → W p l en rmMm s m args below meth c H locs 0 0 Q (F0 m 297 ls []) := by
  obtain ⟨hx, hb, hml, hown, hts, hA, hK⟩ := F
  intro n
  induction n with
  | zero => intro y h1 h2; omega
  | succ n ih =>
    intro y hi hn H locs ls hst hl
    obtain ⟨hP, hD, hS⟩ := hst
    refine lv_iload hx hb dX3_mix_297 (lv_at hl 0 rfl) ?_
    refine lv_iconst (v := nI 5) hx hb dX3_mix_299 (by decide) ?_
    refine n_ge (tgt := 367) hx hb (by omega) (by omega) dX3_mix_300 (by decide) (fun hc => ?_) (fun hc => ?_)
    ·
      have e5 : y = 5 := by omega
      subst e5
      exact K H locs ls ⟨hP, hD, hS⟩ hl
    ·
      refine lv_aload_n hx hb dX3_mix_303 rfl (lv_at hl 4 rfl) ?_
      refine va_get (D := D) (ci := 3) (v := .ref (g 3)) (C := RX3) (T := TX3) (N := 13) hx hb hts in_X3 hown hK hP 0 rfl rfl 7 (by decide) (hts _ q211) (fun _ h9 => h9) rfl dX3_mix_304 ?_
      refine lv_iload hx hb dX3_mix_307 (lv_at hl 1 rfl) ?_
      refine lv_iload hx hb dX3_mix_309 (lv_at hl 0 rfl) ?_
      refine cSi (As := [.int (nI x), .int (nI y)]) (rest := [.ref (g 3)]) ⟨hx, hb, hml, hown, hts⟩ (m_at l x y (by omega) (by omega)) (va_cwS 2 hts (lw_S q290 q291 q15 q292) rfl rfl rfl (by decide +kernel) ⟨Nat.le_of_ble_eq_true rfl, Nat.le_of_ble_eq_true rfl⟩) hP hS hA rfl hl.1 rfl (Nat.le_of_ble_eq_true rfl) dX3_mix_311 ⟨Nat.le_of_ble_eq_true rfl, Nat.le_of_ble_eq_true rfl⟩ (fun H locs hP hS => ?_)
      refine tpi (y := nI (5 * y + x)) (congrArg nI (by omega)) ?_
      refine lv_aload_n hx hb dX3_mix_314 rfl (lv_at hl 4 rfl) ?_
      refine va_get (D := D) (ci := 3) (v := .ref (g 4)) (C := RX3) (T := TX3) (N := 13) hx hb hts in_X3 hown hK hP 0 rfl rfl 8 (by decide) (hts _ q212) (fun _ h9 => h9) rfl dX3_mix_315 ?_
      refine lv_iload hx hb dX3_mix_318 (lv_at hl 1 rfl) ?_
      refine lv_iload hx hb dX3_mix_320 (lv_at hl 0 rfl) ?_
      refine cSi (As := [.int (nI x), .int (nI y)]) (rest := [.ref (g 4), .int (nI (5 * y + x)), .ref (g 3)]) ⟨hx, hb, hml, hown, hts⟩ (m_at l x y (by omega) (by omega)) (va_cwS 2 hts (lw_S q290 q291 q15 q292) rfl rfl rfl (by decide +kernel) ⟨Nat.le_of_ble_eq_true rfl, Nat.le_of_ble_eq_true rfl⟩) hP hS hA rfl hl.1 rfl (Nat.le_of_ble_eq_true rfl) dX3_mix_322 ⟨Nat.le_of_ble_eq_true rfl, Nat.le_of_ble_eq_true rfl⟩ (fun H locs hP hS => ?_)
      refine tpi (y := nI (5 * y + x)) (congrArg nI (by omega)) ?_
      refine n_lald (v := t (5 * y + x)) hx hb hK hP 4 2 rfl rfl (by omega) (by decide) (rfl) dX3_mix_325 ?_
      refine lv_aload_n hx hb dX3_mix_326 rfl (lv_at hl 4 rfl) ?_
      refine va_get (D := D) (ci := 3) (v := .ref (g 4)) (C := RX3) (T := TX3) (N := 13) hx hb hts in_X3 hown hK hP 0 rfl rfl 8 (by decide) (hts _ q212) (fun _ h9 => h9) rfl dX3_mix_327 ?_
      refine lv_iload hx hb dX3_mix_330 (lv_at hl 1 rfl) ?_
      refine lv_iconst (v := nI 1) hx hb dX3_mix_332 (by decide) ?_
      refine n_add hx hb dX3_mix_333 ?_
      refine lv_iload hx hb dX3_mix_334 (lv_at hl 0 rfl) ?_
      refine cSi (As := [.int (nI (x + 1)), .int (nI y)]) (rest := [.ref (g 4), .long (t (5 * y + x)), .int (nI (5 * y + x)), .ref (g 3)]) ⟨hx, hb, hml, hown, hts⟩ (m_at l (x + 1) y (by omega) (by omega)) (va_cwS 2 hts (lw_S q290 q291 q15 q292) rfl rfl rfl (by decide +kernel) ⟨Nat.le_of_ble_eq_true rfl, Nat.le_of_ble_eq_true rfl⟩) hP hS hA rfl hl.1 rfl (Nat.le_of_ble_eq_true rfl) dX3_mix_336 ⟨Nat.le_of_ble_eq_true rfl, Nat.le_of_ble_eq_true rfl⟩ (fun H locs hP hS => ?_)
      refine tpi (y := nI (5 * ((5 * y + x) / 5) + ((5 * y + x) % 5 + 1) % 5)) (congrArg nI (by omega)) ?_
      refine n_lald (v := t (5 * ((5 * y + x) / 5) + ((5 * y + x) % 5 + 1) % 5)) hx hb hK hP 4 2 rfl rfl (by omega) (by decide) (rfl) dX3_mix_339 ?_
      refine lv_ldc2 hx hb hown (hts _ q296) dX3_mix_340 ?_
      refine lv_lxor hx hb dX3_mix_343 ?_
      refine lv_aload_n hx hb dX3_mix_344 rfl (lv_at hl 4 rfl) ?_
      refine va_get (D := D) (ci := 3) (v := .ref (g 4)) (C := RX3) (T := TX3) (N := 13) hx hb hts in_X3 hown hK hP 0 rfl rfl 8 (by decide) (hts _ q212) (fun _ h9 => h9) rfl dX3_mix_345 ?_
      refine lv_iload hx hb dX3_mix_348 (lv_at hl 1 rfl) ?_
      refine lv_iconst (v := nI 2) hx hb dX3_mix_350 (by decide) ?_
      refine n_add hx hb dX3_mix_351 ?_
      refine lv_iload hx hb dX3_mix_352 (lv_at hl 0 rfl) ?_
      refine cSi (As := [.int (nI (x + 2)), .int (nI y)]) (rest := [.ref (g 4), .long ((t (5 * ((5 * y + x) / 5) + ((5 * y + x) % 5 + 1) % 5)) ^^^ ((-1))), .long (t (5 * y + x)), .int (nI (5 * y + x)), .ref (g 3)]) ⟨hx, hb, hml, hown, hts⟩ (m_at l (x + 2) y (by omega) (by omega)) (va_cwS 2 hts (lw_S q290 q291 q15 q292) rfl rfl rfl (by decide +kernel) ⟨Nat.le_of_ble_eq_true rfl, Nat.le_of_ble_eq_true rfl⟩) hP hS hA rfl hl.1 rfl (Nat.le_of_ble_eq_true rfl) dX3_mix_354 ⟨Nat.le_of_ble_eq_true rfl, Nat.le_of_ble_eq_true rfl⟩ (fun H locs hP hS => ?_)
      refine tpi (y := nI (5 * ((5 * y + x) / 5) + ((5 * y + x) % 5 + 2) % 5)) (congrArg nI (by omega)) ?_
      refine n_lald (v := t (5 * ((5 * y + x) / 5) + ((5 * y + x) % 5 + 2) % 5)) hx hb hK hP 4 2 rfl rfl (by omega) (by decide) (rfl) dX3_mix_357 ?_
      refine lv_land hx hb dX3_mix_358 ?_
      refine lv_lxor hx hb dX3_mix_359 ?_
      refine n_last (ws' := wMd ca g sz fd kd sh op ln tx ft (mid ixC (5 * x + (y + 1)) (chL t) w) t cc an al) hx hb hK hP hD hS 3 2 (mid ixC (5 * x + (y + 1)) (chL t) w) rfl rfl (by omega) (by decide) (mid_upL (ixC_iff hx5 (by omega)) rfl) rfl dX3_mix_360 (fun H locs hP hD hS => ?_)
      refine lv_iinc (v := nI (y + 1)) (lv' := [(6, .int (nI (y + 1))), (5, .int (nI x)), (2, .int (nI r)), (1, .int (nI (lf (7 * r)))), (0, .ref (g 0))]) hx hb dX3_mix_361 hl (k := 0) rfl (nI_add _ 1) (by decide) rfl (fun ls hl => ?_)
      refine lv_goto (tgt := 297) hx hb dX3_mix_364 (by decide) ?_
      exact ih (y + 1) (by omega) (by omega) H locs ls ⟨hP, hD, hS⟩ hl
set_option maxHeartbeats 1000000 in
set_option maxRecDepth 100000 in
theorem mxE (sz fd kd sh op ln : Int32) (tx ft an al : Nat → Int32) (w t cc : Nat → Int64) (r : Nat) (F : Fix p m c cX3_mix 7 s args RX3 A D ca)
    (K : ∀ (H : Heap) (locs : List Loc) (ls : Array Slot), Sta D A s (wMd ca g sz fd kd sh op ln tx ft (mid ixC (5 * 5) (chL t) w) t cc an al) H locs → lv_has ls 7 [(5, .int (nI 5)), (2, .int (nI r)), (1, .int (nI (lf (7 * r)))), (0, .ref (g 0))] → W p l en rmMm s m args below meth c H locs 0 0 Q (F0 m 373 ls [])) :
    ∀ (n x : Nat), x ≤ 5 → 5 + 1 ≤ x + n → ∀ (H : Heap) (locs : List Loc) (ls : Array Slot), Sta D A s (wMd ca g sz fd kd sh op ln tx ft (mid ixC (5 * x) (chL t) w) t cc an al) H locs → lv_has ls 7 [(5, .int (nI x)), (2, .int (nI r)), (1, .int (nI (lf (7 * r)))), (0, .ref (g 0))] → W p l en rmMm s m args below meth c H locs 0 0 Q (F0 m 288 ls []) := by
  have F1 := F
  obtain ⟨hx, hb, hml, hown, hts, hA, hK⟩ := F
  intro n
  induction n with
  | zero => intro x h1 h2; omega
  | succ n ih =>
    intro x hi hn H locs ls hst hl
    obtain ⟨hP, hD, hS⟩ := hst
    refine lv_iload hx hb dX3_mix_288 (lv_at hl 0 rfl) ?_
    refine lv_iconst (v := nI 5) hx hb dX3_mix_290 (by decide) ?_
    refine n_ge (tgt := 373) hx hb (by omega) (by omega) dX3_mix_291 (by decide) (fun hc => ?_) (fun hc => ?_)
    ·
      have e5 : x = 5 := by omega
      subst e5
      exact K H locs ls ⟨hP, hD, hS⟩ hl
    ·
      refine lv_iconst (v := nI 0) hx hb dX3_mix_294 (by decide) ?_
      refine lv_istore (lv' := [(6, .int (nI 0)), (5, .int (nI x)), (2, .int (nI r)), (1, .int (nI (lf (7 * r)))), (0, .ref (g 0))]) hx hb dX3_mix_295 hl (by decide) rfl (fun ls hl => ?_)
      refine mxE1 sz fd kd sh op ln tx ft an al w t cc r x (by omega) F1 (fun H locs ls hst hl => ?_) 6 0 (by omega) (by omega) H locs ls ⟨hP, hD, hS⟩ hl
      obtain ⟨hP, hD, hS⟩ := hst
      refine lv_iinc (v := nI (x + 1)) (lv' := [(5, .int (nI (x + 1))), (6, .int (nI 5)), (2, .int (nI r)), (1, .int (nI (lf (7 * r)))), (0, .ref (g 0))]) hx hb dX3_mix_367 hl (k := 1) rfl (nI_add _ 1) (by decide) rfl (fun ls hl => ?_)
      refine lv_goto (tgt := 288) hx hb dX3_mix_370 (by decide) ?_
      have e5 : 5 * x + 5 = 5 * (x + 1) := by omega
      rw [e5] at hP hD
      exact ih (x + 1) (by omega) (by omega) H locs ls ⟨hP, hD, hS⟩ (lv_sub hl [0, 2, 3, 4] rfl)
set_option maxHeartbeats 1000000 in
set_option maxRecDepth 100000 in
theorem mxF (sz fd kd sh op ln : Int32) (tx ft an al : Nat → Int32) (w t cc : Nat → Int64) (r : Nat) (F : Fix p m c cX3_mix 7 s args RX3 A D ca)
    (K : ∀ (H : Heap) (locs : List Loc) (ls : Array Slot), Sta D A s (wMd ca g sz fd kd sh op ln tx ft (vp_updL w 0 (ioL r (w 0) 7)) t cc an al) H locs → lv_has ls 7 [(5, .int (nI 7)), (1, .int (nI (lf (7 * r + 7)))), (2, .int (nI r)), (0, .ref (g 0))] → W p l en rmMm s m args below meth c H locs 0 0 Q (F0 m 433 ls [])) :
    ∀ (n k : Nat), k ≤ 7 → 7 + 1 ≤ k + n → ∀ (H : Heap) (locs : List Loc) (ls : Array Slot), Sta D A s (wMd ca g sz fd kd sh op ln tx ft (vp_updL w 0 (ioL r (w 0) k)) t cc an al) H locs → lv_has ls 7 [(5, .int (nI k)), (1, .int (nI (lf (7 * r + k)))), (2, .int (nI r)), (0, .ref (g 0))] → W p l en rmMm s m args below meth c H locs 0 0 Q (F0 m 376 ls []) := by
  obtain ⟨hx, hb, hml, hown, hts, hA, hK⟩ := F
  intro n
  induction n with
  | zero => intro k h1 h2; omega
  | succ n ih =>
    intro k hi hn H locs ls hst hl
    obtain ⟨hP, hD, hS⟩ := hst
    refine lv_iload hx hb dX3_mix_376 (lv_at hl 0 rfl) ?_
    refine lv_bipush (v := nI 7) hx hb dX3_mix_378 (by decide) ?_
    refine n_ge (tgt := 433) hx hb (by omega) (by omega) dX3_mix_380 (by decide) (fun hc => ?_) (fun hc => ?_)
    ·
      have e5 : k = 7 := by omega
      subst e5
      exact K H locs ls ⟨hP, hD, hS⟩ hl
    ·
      have hlf := lf_lt (7 * r + k)
      have tail : ∀ (H : Heap) (locs : List Loc) (ls : Array Slot), Sta D A s (wMd ca g sz fd kd sh op ln tx ft (vp_updL w 0 (ioL r (w 0) (k + 1))) t cc an al) H locs → lv_has ls 7 [(5, .int (nI k)), (1, .int (nI (lf (7 * r + k)))), (2, .int (nI r)), (0, .ref (g 0))] → W p l en rmMm s m args below meth c H locs 0 0 Q (F0 m 410 ls []) := by
        intro H locs ls hst hl
        obtain ⟨hP, hD, hS⟩ := hst
        refine lv_iload_n hx hb dX3_mix_410 rfl (lv_at hl 1 rfl) ?_
        refine lv_iconst (v := nI 1) hx hb dX3_mix_411 (by decide) ?_
        refine lv_ishl hx hb dX3_mix_412 ?_
        refine tpi (y := nI (2 * lf (7 * r + k))) ((pk_shlN (nI 1 &&& 31) 1 (by decide) (by omega)).trans (congrArg nI (by omega))) ?_
        refine lv_istore_n (lv' := [(1, .int (nI (2 * lf (7 * r + k)))), (5, .int (nI k)), (2, .int (nI r)), (0, .ref (g 0))]) hx hb dX3_mix_413 rfl hl (by decide) rfl (fun ls hl => ?_)
        refine lv_iload_n hx hb dX3_mix_414 rfl (lv_at hl 0 rfl) ?_
        refine lv_sipush (v := nI 255) hx hb dX3_mix_415 (by decide) ?_
        refine n_le (tgt := 427) hx hb (by omega) (by omega) dX3_mix_418 (by decide) (fun h255 => ?_) (fun h255 => ?_)
        ·
          refine lv_iinc (v := nI (k + 1)) (lv' := [(5, .int (nI (k + 1))), (1, .int (nI (2 * lf (7 * r + k)))), (2, .int (nI r)), (0, .ref (g 0))]) hx hb dX3_mix_427 hl (k := 1) rfl (nI_add _ 1) (by decide) rfl (fun ls hl => ?_)
          refine lv_goto (tgt := 376) hx hb dX3_mix_430 (by decide) ?_
          have hlf1 : 2 * lf (7 * r + k) = lf (7 * r + (k + 1)) := (if_neg (by omega) : lfs (2 * lf (7 * r + k)) = 2 * lf (7 * r + k)).symm
          rw [hlf1] at hl
          exact ih (k + 1) (by omega) (by omega) H locs ls ⟨hP, hD, hS⟩ (lv_sub hl [0, 1, 2, 3] rfl)
        ·
          refine lv_iload_n hx hb dX3_mix_421 rfl (lv_at hl 0 rfl) ?_
          refine lv_sipush (v := nI 369) hx hb dX3_mix_422 (by decide) ?_
          refine lv_ixor hx hb dX3_mix_425 ?_
          refine tpi (y := nI ((2 * lf (7 * r + k)) ^^^ 369)) (nx_xor _ _) ?_
          refine lv_istore_n (lv' := [(1, .int (nI ((2 * lf (7 * r + k)) ^^^ 369))), (5, .int (nI k)), (2, .int (nI r)), (0, .ref (g 0))]) hx hb dX3_mix_426 rfl hl (by decide) rfl (fun ls hl => ?_)
          refine lv_iinc (v := nI (k + 1)) (lv' := [(5, .int (nI (k + 1))), (1, .int (nI ((2 * lf (7 * r + k)) ^^^ 369))), (2, .int (nI r)), (0, .ref (g 0))]) hx hb dX3_mix_427 hl (k := 1) rfl (nI_add _ 1) (by decide) rfl (fun ls hl => ?_)
          refine lv_goto (tgt := 376) hx hb dX3_mix_430 (by decide) ?_
          have hlf1 : (2 * lf (7 * r + k)) ^^^ 369 = lf (7 * r + (k + 1)) := (if_pos (by omega) : lfs (2 * lf (7 * r + k)) = (2 * lf (7 * r + k)) ^^^ 369).symm
          rw [hlf1] at hl
          exact ih (k + 1) (by omega) (by omega) H locs ls ⟨hP, hD, hS⟩ (lv_sub hl [0, 1, 2, 3] rfl)
      refine lv_iload_n hx hb dX3_mix_383 rfl (lv_at hl 1 rfl) ?_
      refine lv_iconst (v := nI 1) hx hb dX3_mix_384 (by decide) ?_
      refine lv_iand hx hb dX3_mix_385 ?_
      refine tpi (y := nI (lf (7 * r + k) % 2)) (pk_andN (m := nI 1) (by omega) 1 (by decide)) ?_
      refine n_ifeq (tgt := 410) hx hb (by omega) dX3_mix_386 (by decide) (fun hs => ?_) (fun hs => ?_)
      ·
        have hio : ioL r (w 0) (k + 1) = ioL r (w 0) k := if_neg (by omega)
        have hP : va_P D vwCl (wMd ca g sz fd kd sh op ln tx ft (vp_updL w 0 (ioL r (w 0) (k + 1))) t cc an al) H := by rw [hio]; exact hP
        have hD : va_D A (wMd ca g sz fd kd sh op ln tx ft (vp_updL w 0 (ioL r (w 0) (k + 1))) t cc an al) := by rw [hio]; exact hD
        exact tail H locs ls ⟨hP, hD, hS⟩ hl
      ·
        have hio : ioL r (w 0) (k + 1) = ioL r (w 0) k ^^^ (1 <<< ((nI (2 ^ k - 1)).toInt64 &&& 63)) := if_pos (by omega)
        refine lv_aload_n hx hb dX3_mix_389 rfl (lv_at hl 3 rfl) ?_
        refine va_get (D := D) (ci := 3) (v := .ref (g 3)) (C := RX3) (T := TX3) (N := 13) hx hb hts in_X3 hown hK hP 0 rfl rfl 7 (by decide) (hts _ q211) (fun _ h9 => h9) rfl dX3_mix_390 ?_
        refine lv_iconst (v := nI 0) hx hb dX3_mix_393 (by decide) ?_
        refine lv_aload_n hx hb dX3_mix_394 rfl (lv_at hl 3 rfl) ?_
        refine va_get (D := D) (ci := 3) (v := .ref (g 3)) (C := RX3) (T := TX3) (N := 13) hx hb hts in_X3 hown hK hP 0 rfl rfl 7 (by decide) (hts _ q211) (fun _ h9 => h9) rfl dX3_mix_395 ?_
        refine lv_iconst (v := nI 0) hx hb dX3_mix_398 (by decide) ?_
        refine n_lald (v := ioL r (w 0) k) hx hb hK hP 3 2 rfl rfl (by omega) (by decide) (updL_self _ _ _) dX3_mix_399 ?_
        refine lv_lconst (v := 1) hx hb dX3_mix_400 (by decide) ?_
        refine lv_iconst (v := nI 1) hx hb dX3_mix_401 (by decide) ?_
        refine lv_iload hx hb dX3_mix_402 (lv_at hl 0 rfl) ?_
        refine lv_ishl hx hb dX3_mix_404 ?_
        refine tpi (y := nI (2 ^ k)) (sh1 k (by omega)) ?_
        refine lv_iconst (v := nI 1) hx hb dX3_mix_405 (by decide) ?_
        refine n_sub hx hb (tp1 _) dX3_mix_406 ?_
        refine lv_lshl hx hb dX3_mix_407 rfl ?_
        refine lv_lxor hx hb dX3_mix_408 ?_
        refine n_last (ws' := wMd ca g sz fd kd sh op ln tx ft (vp_updL w 0 (ioL r (w 0) k ^^^ (1 <<< ((nI (2 ^ k - 1)).toInt64 &&& 63)))) t cc an al) hx hb hK hP hD hS 3 2 (vp_updL w 0 (ioL r (w 0) k ^^^ (1 <<< ((nI (2 ^ k - 1)).toInt64 &&& 63)))) rfl rfl (by omega) (by decide) (fun q _ => updL_updL _ _ _ _ q) rfl dX3_mix_409 (fun H locs hP hD hS => ?_)
        have hP : va_P D vwCl (wMd ca g sz fd kd sh op ln tx ft (vp_updL w 0 (ioL r (w 0) (k + 1))) t cc an al) H := by rw [hio]; exact hP
        have hD : va_D A (wMd ca g sz fd kd sh op ln tx ft (vp_updL w 0 (ioL r (w 0) (k + 1))) t cc an al) := by rw [hio]; exact hD
        exact tail H locs ls ⟨hP, hD, hS⟩ hl
set_option maxHeartbeats 1000000 in
set_option maxRecDepth 100000 in
theorem mxR (sz fd kd sh op ln : Int32) (tx ft an al : Nat → Int32) (w : Nat → Int64) (F : Fix p m c cX3_mix 7 s args RX3 A D ca)
    (K : ∀ (t cc : Nat → Int64) (H : Heap) (locs : List Loc) (ls : Array Slot), Sta D A s (wMd ca g sz fd kd sh op ln tx ft (mxL w 24) t cc an al) H locs → lv_has ls 7 [(2, .int (nI 24)), (1, .int (nI (lf (7 * 24)))), (0, .ref (g 0))] → W p l en rmMm s m args below meth c H locs 0 0 Q (F0 m 439 ls [])) :
    ∀ (n r : Nat), r ≤ 24 → 24 + 1 ≤ r + n → ∀ (t cc : Nat → Int64) (H : Heap) (locs : List Loc) (ls : Array Slot), Sta D A s (wMd ca g sz fd kd sh op ln tx ft (mxL w r) t cc an al) H locs → lv_has ls 7 [(2, .int (nI r)), (1, .int (nI (lf (7 * r)))), (0, .ref (g 0))] → W p l en rmMm s m args below meth c H locs 0 0 Q (F0 m 4 ls []) := by
  have F1 := F
  obtain ⟨hx, hb, hml, hown, hts, hA, hK⟩ := F
  intro n
  induction n with
  | zero => intro r h1 h2; omega
  | succ n ih =>
    intro r hi hn t cc H locs ls hst hl
    obtain ⟨hP, hD, hS⟩ := hst
    refine lv_iload_n hx hb dX3_mix_4 rfl (lv_at hl 0 rfl) ?_
    refine lv_bipush (v := nI 24) hx hb dX3_mix_5 (by decide) ?_
    refine n_ge (tgt := 439) hx hb (by omega) (by omega) dX3_mix_7 (by decide) (fun hc => ?_) (fun hc => ?_)
    ·
      have e5 : r = 24 := by omega
      subst e5
      exact K t cc H locs ls ⟨hP, hD, hS⟩ hl
    ·
      generalize hw : mxL w r = v at hP hD
      refine lv_iconst (v := nI 0) hx hb dX3_mix_10 (by decide) ?_
      refine lv_istore_n (lv' := [(3, .int (nI 0)), (2, .int (nI r)), (1, .int (nI (lf (7 * r)))), (0, .ref (g 0))]) hx hb dX3_mix_11 rfl hl (by decide) rfl (fun ls hl => ?_)
      have hP : va_P D vwCl (wMd ca g sz fd kd sh op ln tx ft v t (mid id 0 (fun x => csL v x 5) cc) an al) H := by rw [mid_0]; exact hP
      have hD : va_D A (wMd ca g sz fd kd sh op ln tx ft v t (mid id 0 (fun x => csL v x 5) cc) an al) := by rw [mid_0]; exact hD
      refine mxA sz fd kd sh op ln tx ft an al v t cc r F1 (fun H locs ls hst hl => ?_) 6 0 (by omega) (by omega) _ _ ls ⟨hP, hD, hS⟩ (lv_sub hl [0, 1, 2, 3] rfl)
      obtain ⟨hP, hD, hS⟩ := hst
      obtain ⟨hP, hD⟩ := P_fnL (ws' := wMd ca g sz fd kd sh op ln tx ft v t (fun x => csL v x 5) an al) hP hD 5 (fun x => csL v x 5) rfl (mid_end (fun q hq => hq)) rfl
      refine lv_iconst (v := nI 0) hx hb dX3_mix_69 (by decide) ?_
      refine lv_istore_n (lv' := [(3, .int (nI 0)), (2, .int (nI r)), (1, .int (nI (lf (7 * r)))), (0, .ref (g 0))]) hx hb dX3_mix_70 rfl hl (by decide) rfl (fun ls hl => ?_)
      have hP : va_P D vwCl (wMd ca g sz fd kd sh op ln tx ft (mid ixC (5 * 0) (thL v) v) t (fun x => csL v x 5) an al) H := by rw [mid_0]; exact hP
      have hD : va_D A (wMd ca g sz fd kd sh op ln tx ft (mid ixC (5 * 0) (thL v) v) t (fun x => csL v x 5) an al) := by rw [mid_0]; exact hD
      refine mxB sz fd kd sh op ln tx ft an al v t r F1 (fun H locs ls hst hl => ?_) 6 0 (by omega) (by omega) _ _ ls ⟨hP, hD, hS⟩ (lv_sub hl [0, 1, 2, 3] rfl)
      obtain ⟨hP, hD, hS⟩ := hst
      obtain ⟨hP, hD⟩ := P_fnL (ws' := wMd ca g sz fd kd sh op ln tx ft (thL v) t (fun x => csL v x 5) an al) hP hD 3 (thL v) rfl (mid_end ixC_lt) rfl
      refine lv_iconst (v := nI 1) hx hb dX3_mix_145 (by decide) ?_
      refine lv_istore_n (lv' := [(3, .int (nI 1)), (2, .int (nI r)), (1, .int (nI (lf (7 * r)))), (0, .ref (g 0))]) hx hb dX3_mix_146 rfl hl (by decide) rfl (fun ls hl => ?_)
      refine lv_iconst (v := nI 0) hx hb dX3_mix_147 (by decide) ?_
      refine lv_istore (lv' := [(4, .int (nI 0)), (3, .int (nI 1)), (2, .int (nI r)), (1, .int (nI (lf (7 * r)))), (0, .ref (g 0))]) hx hb dX3_mix_148 hl (by decide) rfl (fun ls hl => ?_)
      refine lv_iconst (v := nI 0) hx hb dX3_mix_150 (by decide) ?_
      refine lv_istore (lv' := [(5, .int (nI 0)), (4, .int (nI 0)), (3, .int (nI 1)), (2, .int (nI r)), (1, .int (nI (lf (7 * r)))), (0, .ref (g 0))]) hx hb dX3_mix_151 hl (by decide) rfl (fun ls hl => ?_)
      have hP : va_P D vwCl (wMd ca g sz fd kd sh op ln tx ft (mid ORc 0 (rhL (thL v)) (thL v)) t (fun x => csL v x 5) an al) H := by rw [mid_0]; exact hP
      have hD : va_D A (wMd ca g sz fd kd sh op ln tx ft (mid ORc 0 (rhL (thL v)) (thL v)) t (fun x => csL v x 5) an al) := by rw [mid_0]; exact hD
      refine mxC sz fd kd sh op ln tx ft an al (thL v) t (fun x => csL v x 5) r F1 (fun H locs ls hst hl => ?_) 25 0 (by omega) (by omega) _ _ ls ⟨hP, hD, hS⟩ (lv_sub hl [0, 1, 2, 3, 4, 5] rfl)
      obtain ⟨hP, hD, hS⟩ := hst
      obtain ⟨hP, hD⟩ := P_fnL (ws' := wMd ca g sz fd kd sh op ln tx ft (rhL (thL v)) t (fun x => csL v x 5) an al) hP hD 3 (rhL (thL v)) rfl (mid_ORL) rfl
      refine lv_iconst (v := nI 0) hx hb dX3_mix_224 (by decide) ?_
      refine lv_istore (lv' := [(5, .int (nI 0)), (4, .int (nI ((pq 24).2))), (3, .int (nI ((pq 24).1))), (2, .int (nI r)), (1, .int (nI (lf (7 * r)))), (0, .ref (g 0))]) hx hb dX3_mix_225 hl (by decide) rfl (fun ls hl => ?_)
      have hP : va_P D vwCl (wMd ca g sz fd kd sh op ln tx ft (rhL (thL v)) (mid ixP (5 * 0) (piL (rhL (thL v))) t) (fun x => csL v x 5) an al) H := by rw [mid_0]; exact hP
      have hD : va_D A (wMd ca g sz fd kd sh op ln tx ft (rhL (thL v)) (mid ixP (5 * 0) (piL (rhL (thL v))) t) (fun x => csL v x 5) an al) := by rw [mid_0]; exact hD
      refine mxD sz fd kd sh op ln tx ft an al (rhL (thL v)) t (fun x => csL v x 5) r F1 (fun H locs ls hst hl => ?_) 6 0 (by omega) (by omega) _ _ ls ⟨hP, hD, hS⟩ (lv_sub hl [0, 3, 4, 5] rfl)
      obtain ⟨hP, hD, hS⟩ := hst
      obtain ⟨hP, hD⟩ := P_fnL (ws' := wMd ca g sz fd kd sh op ln tx ft (rhL (thL v)) (piL (rhL (thL v))) (fun x => csL v x 5) an al) hP hD 4 (piL (rhL (thL v))) rfl (mid_end ixP_lt) rfl
      refine lv_iconst (v := nI 0) hx hb dX3_mix_285 (by decide) ?_
      refine lv_istore (lv' := [(5, .int (nI 0)), (2, .int (nI r)), (1, .int (nI (lf (7 * r)))), (0, .ref (g 0))]) hx hb dX3_mix_286 hl (by decide) rfl (fun ls hl => ?_)
      have hP : va_P D vwCl (wMd ca g sz fd kd sh op ln tx ft (mid ixC (5 * 0) (chL (piL (rhL (thL v)))) (rhL (thL v))) (piL (rhL (thL v))) (fun x => csL v x 5) an al) H := by rw [mid_0]; exact hP
      have hD : va_D A (wMd ca g sz fd kd sh op ln tx ft (mid ixC (5 * 0) (chL (piL (rhL (thL v)))) (rhL (thL v))) (piL (rhL (thL v))) (fun x => csL v x 5) an al) := by rw [mid_0]; exact hD
      refine mxE sz fd kd sh op ln tx ft an al (rhL (thL v)) (piL (rhL (thL v))) (fun x => csL v x 5) r F1 (fun H locs ls hst hl => ?_) 6 0 (by omega) (by omega) _ _ ls ⟨hP, hD, hS⟩ (lv_sub hl [0, 1, 2, 3] rfl)
      obtain ⟨hP, hD, hS⟩ := hst
      obtain ⟨hP, hD⟩ := P_fnL (ws' := wMd ca g sz fd kd sh op ln tx ft (chL (piL (rhL (thL v)))) (piL (rhL (thL v))) (fun x => csL v x 5) an al) hP hD 3 (chL (piL (rhL (thL v)))) rfl (mid_end ixC_lt) rfl
      refine lv_iconst (v := nI 0) hx hb dX3_mix_373 (by decide) ?_
      refine lv_istore (lv' := [(5, .int (nI 0)), (2, .int (nI r)), (1, .int (nI (lf (7 * r)))), (0, .ref (g 0))]) hx hb dX3_mix_374 hl (by decide) rfl (fun ls hl => ?_)
      obtain ⟨hP, hD⟩ := P_fnL (ws' := wMd ca g sz fd kd sh op ln tx ft (vp_updL (chL (piL (rhL (thL v)))) 0 (ioL r ((chL (piL (rhL (thL v)))) 0) 0)) (piL (rhL (thL v))) (fun x => csL v x 5) an al) hP hD 3 (vp_updL (chL (piL (rhL (thL v)))) 0 (ioL r ((chL (piL (rhL (thL v)))) 0) 0)) rfl (fun q _ => updL_same rfl q) rfl
      refine mxF sz fd kd sh op ln tx ft an al (chL (piL (rhL (thL v)))) (piL (rhL (thL v))) (fun x => csL v x 5) r F1 (fun H locs ls hst hl => ?_) 8 0 (by omega) (by omega) _ _ ls ⟨hP, hD, hS⟩ (lv_sub hl [0, 2, 1, 3] rfl)
      obtain ⟨hP, hD, hS⟩ := hst
      obtain ⟨hP, hD⟩ := P_fnL (ws' := wMd ca g sz fd kd sh op ln tx ft (rdL r v) (piL (rhL (thL v))) (fun x => csL v x 5) an al) hP hD 3 (rdL r v) rfl (fun q _ => rfl) rfl
      refine lv_iinc (v := nI (r + 1)) (lv' := [(2, .int (nI (r + 1))), (5, .int (nI 7)), (1, .int (nI (lf (7 * r + 7)))), (0, .ref (g 0))]) hx hb dX3_mix_433 hl (k := 2) rfl (nI_add _ 1) (by decide) rfl (fun ls hl => ?_)
      refine lv_goto (tgt := 4) hx hb dX3_mix_436 (by decide) ?_
      have hl7 : 7 * r + 7 = 7 * (r + 1) := by omega
      rw [hl7] at hl
      have hv : rdL r v = mxL w (r + 1) := by rw [← hw]; rfl
      rw [hv] at hP hD
      exact ih (r + 1) (by omega) (by omega) _ _ H locs ls ⟨hP, hD, hS⟩ (lv_sub hl [0, 2, 3] rfl)
end MMX
set_option maxHeartbeats 1000000 in
set_option maxRecDepth 100000 in
theorem m_mmix (l : Launch) (D : va_G) (ca : Nat → ClassId) (g : Nat → Nat) (sz fd kd sh op ln : Int32) (tx ft : Nat → Int32) (wd t cc : Nat → Int64) (an al : Nat → Int32)  : MV l yX3_mix cX3_mix 7 rmMm D ca noX [.ref (g 0)] (wMd ca g sz fd kd sh op ln tx ft wd t cc an al) (S := (Nat → Int64) × (Nat → Int64)) (fun _ => True) (fun u => wMd ca g sz fd kd sh op ln tx ft (mixL wd) u.1 u.2 an al) 0 0 := by
  refine MV.of (by decide) (Nat.le_of_ble_eq_true rfl) ?_
  intro p en s m below meth c A hx hb hr hml hlk hown hts hnm hA hP hK hD hS hX ls hl
  have hown : s.vm.findClass RX3 = some m.cls := hown
  have hl : lv_has ls 7 [(0, .ref (g 0))] := hl
  have F1 : Fix p m c cX3_mix 7 s _ RX3 A D ca := ⟨hx, hb, hml, hown, hts, hA, hK⟩
  refine lv_iconst (v := nI 1) hx hb dX3_mix_0 (by decide) ?_
  refine lv_istore_n (lv' := [(1, .int (nI 1)), (0, .ref (g 0))]) hx hb dX3_mix_1 rfl hl (by decide) rfl (fun ls hl => ?_)
  refine lv_iconst (v := nI 0) hx hb dX3_mix_2 (by decide) ?_
  refine lv_istore_n (lv' := [(2, .int (nI 0)), (1, .int (nI 1)), (0, .ref (g 0))]) hx hb dX3_mix_3 rfl hl (by decide) rfl (fun ls hl => ?_)
  refine mxR sz fd kd sh op ln tx ft an al wd F1 (fun t cc H locs ls hst hl => ?_) 25 0 (by omega) (by omega) _ _ _ _ ls ⟨hP, hD, hS⟩ (lv_sub hl [0, 1, 2] rfl)
  obtain ⟨hP, hD, hS⟩ := hst
  exact vend hx hb hr hlk (t, cc) trivial hP hK hD hS (Nat.le_refl _) (Nat.le_refl _) dX3_mix_439
end
section
/-! the reference: first, many, rate, size, trim, begin, put, feed, answer -/
abbrev rmMt : Room := { frames := 1, cells := 0, slots := 0, locals := 21 }
abbrev rmMf : Room := { frames := 1, cells := 0, slots := 0, locals := 22 }
set_option maxHeartbeats 1000000 in
set_option maxRecDepth 100000 in
theorem m_first (l : Launch) (D : va_G) (ca : Nat → ClassId) (g : Nat → Nat) (fd kd sh op ln : Int32) (tx ft : Nat → Int32) (wd t cc : Nat → Int64) (an al : Nat → Int32) (n0 : Nat) (hn0 : n0 ≤ 4096) (x : Int32) : MI l yX3_first cX3_first 2 .int rmz D ca noX [.ref (g 0), .int x] (wMd ca g (nI n0) fd kd sh op ln tx ft wd t cc an al) (S := Unit) (fun v _ => v = nI (cut x % (n0 + 1))) (fun _ => wMd ca g (nI n0) fd kd sh op ln tx ft wd t cc an al) 0 0 := by
  refine MI.of (by decide) (Nat.le_of_ble_eq_true rfl) ?_
  intro p en s m below meth c A hx hb hr hml hlk hown hts hnm hA hP hK hD hS hX ls hl
  have hown : s.vm.findClass RX3 = some m.cls := hown
  have hl : lv_has ls 2 [(0, .ref (g 0)), (1, .int x)] := hl
  refine lv_iload_n hx hb dX3_first_0 rfl (lv_at hl 1 rfl) ?_
  refine lv_ldc hx hb hown (hts _ q257) dX3_first_1 ?_
  refine lv_iand hx hb dX3_first_3 ?_
  refine tpi (y := nI (cut x)) ((cut_eq x).1) ?_
  refine lv_aload_n hx hb dX3_first_4 rfl (lv_at hl 0 rfl) ?_
  refine va_get (D := D) (ci := 3) (v := .int (nI n0)) (C := RX3) (T := TX3) (N := 13) hx hb hts in_X3 hown hK hP 0 rfl rfl 1 (by decide) (hts _ q205) (fun _ h9 => h9) rfl dX3_first_5 ?_
  refine lv_iconst (v := nI 1) hx hb dX3_first_8 (by decide) ?_
  refine n_add hx hb dX3_first_9 ?_
  refine n_rem hx hb ((cut_eq x).2) (by omega) (by omega) dX3_first_10 ?_
  exact iend hx hb hr hlk () rfl hP hK hD hS (Nat.le_refl _) (Nat.le_refl _) dX3_first_11
set_option maxHeartbeats 1000000 in
set_option maxRecDepth 100000 in
theorem m_many (l : Launch) (D : va_G) (ca : Nat → ClassId) (g : Nat → Nat) (fd kd sh op ln : Int32) (tx ft : Nat → Int32) (wd t cc : Nat → Int64) (an al : Nat → Int32) (n0 fr : Nat) (hn0 : n0 ≤ 4096) (hfr : fr ≤ n0) (x : Int32) : MI l yX3_many cX3_many 3 .int rmz D ca noX [.ref (g 0), .int (nI fr), .int x] (wMd ca g (nI n0) fd kd sh op ln tx ft wd t cc an al) (S := Unit) (fun v _ => v = nI (cut x % (n0 - fr + 1))) (fun _ => wMd ca g (nI n0) fd kd sh op ln tx ft wd t cc an al) 0 0 := by
  refine MI.of (by decide) (Nat.le_of_ble_eq_true rfl) ?_
  intro p en s m below meth c A hx hb hr hml hlk hown hts hnm hA hP hK hD hS hX ls hl
  have hown : s.vm.findClass RX3 = some m.cls := hown
  have hl : lv_has ls 3 [(0, .ref (g 0)), (1, .int (nI fr)), (2, .int x)] := hl
  refine lv_iload_n hx hb dX3_many_0 rfl (lv_at hl 2 rfl) ?_
  refine lv_ldc hx hb hown (hts _ q257) dX3_many_1 ?_
  refine lv_iand hx hb dX3_many_3 ?_
  refine tpi (y := nI (cut x)) ((cut_eq x).1) ?_
  refine lv_aload_n hx hb dX3_many_4 rfl (lv_at hl 0 rfl) ?_
  refine va_get (D := D) (ci := 3) (v := .int (nI n0)) (C := RX3) (T := TX3) (N := 13) hx hb hts in_X3 hown hK hP 0 rfl rfl 1 (by decide) (hts _ q205) (fun _ h9 => h9) rfl dX3_many_5 ?_
  refine lv_iload_n hx hb dX3_many_8 rfl (lv_at hl 1 rfl) ?_
  refine n_sub hx hb (by omega) dX3_many_9 ?_
  refine lv_iconst (v := nI 1) hx hb dX3_many_10 (by decide) ?_
  refine n_add hx hb dX3_many_11 ?_
  refine n_rem hx hb ((cut_eq x).2) (by omega) (by omega) dX3_many_12 ?_
  exact iend hx hb hr hlk () rfl hP hK hD hS (Nat.le_refl _) (Nat.le_refl _) dX3_many_13
set_option maxHeartbeats 1000000 in
set_option maxRecDepth 100000 in
theorem m_rate (l : Launch) (D : va_G) (ca : Nat → ClassId) (g : Nat → Nat) (sz fd sh op ln : Int32) (tx ft : Nat → Int32) (wd t cc : Nat → Int64) (an al : Nat → Int32) (kk : Nat) (hkk : kk < 6) : MI l yX3_rate cX3_rate 1 .int rmz D ca noX [.ref (g 0)] (wMd ca g sz fd (nI kk) sh op ln tx ft wd t cc an al) (S := Unit) (fun v _ => v = nI (RT kk)) (fun _ => wMd ca g sz fd (nI kk) sh op ln tx ft wd t cc an al) 0 0 := by
  refine MI.of (by decide) (Nat.le_of_ble_eq_true rfl) ?_
  intro p en s m below meth c A hx hb hr hml hlk hown hts hnm hA hP hK hD hS hX ls hl
  have hown : s.vm.findClass RX3 = some m.cls := hown
  have hl : lv_has ls 1 [(0, .ref (g 0))] := hl
  refine lv_aload_n hx hb dX3_rate_0 rfl (lv_at hl 0 rfl) ?_
  refine va_get (D := D) (ci := 3) (v := .int (nI kk)) (C := RX3) (T := TX3) (N := 13) hx hb hts in_X3 hown hK hP 0 rfl rfl 4 (by decide) (hts _ q208) (fun _ h9 => h9) rfl dX3_rate_1 ?_
  refine n_ifne (tgt := 13) hx hb (by omega) dX3_rate_4 (by decide) (fun hc0 => ?_) (fun hc0 => ?_)
  ·
    refine lv_aload_n hx hb dX3_rate_13 rfl (lv_at hl 0 rfl) ?_
    refine va_get (D := D) (ci := 3) (v := .int (nI kk)) (C := RX3) (T := TX3) (N := 13) hx hb hts in_X3 hown hK hP 0 rfl rfl 4 (by decide) (hts _ q208) (fun _ h9 => h9) rfl dX3_rate_14 ?_
    refine lv_iconst (v := nI 1) hx hb dX3_rate_17 (by decide) ?_
    refine n_ne (tgt := 27) hx hb (by omega) (by omega) dX3_rate_18 (by decide) (fun hc1 => ?_) (fun hc1 => ?_)
    ·
      refine lv_aload_n hx hb dX3_rate_27 rfl (lv_at hl 0 rfl) ?_
      refine va_get (D := D) (ci := 3) (v := .int (nI kk)) (C := RX3) (T := TX3) (N := 13) hx hb hts in_X3 hown hK hP 0 rfl rfl 4 (by decide) (hts _ q208) (fun _ h9 => h9) rfl dX3_rate_28 ?_
      refine lv_iconst (v := nI 2) hx hb dX3_rate_31 (by decide) ?_
      refine n_ne (tgt := 40) hx hb (by omega) (by omega) dX3_rate_32 (by decide) (fun hc2 => ?_) (fun hc2 => ?_)
      ·
        refine lv_aload_n hx hb dX3_rate_40 rfl (lv_at hl 0 rfl) ?_
        refine va_get (D := D) (ci := 3) (v := .int (nI kk)) (C := RX3) (T := TX3) (N := 13) hx hb hts in_X3 hown hK hP 0 rfl rfl 4 (by decide) (hts _ q208) (fun _ h9 => h9) rfl dX3_rate_41 ?_
        refine lv_iconst (v := nI 3) hx hb dX3_rate_44 (by decide) ?_
        refine n_ne (tgt := 53) hx hb (by omega) (by omega) dX3_rate_45 (by decide) (fun hc3 => ?_) (fun hc3 => ?_)
        ·
          refine lv_aload_n hx hb dX3_rate_53 rfl (lv_at hl 0 rfl) ?_
          refine va_get (D := D) (ci := 3) (v := .int (nI kk)) (C := RX3) (T := TX3) (N := 13) hx hb hts in_X3 hown hK hP 0 rfl rfl 4 (by decide) (hts _ q208) (fun _ h9 => h9) rfl dX3_rate_54 ?_
          refine lv_iconst (v := nI 4) hx hb dX3_rate_57 (by decide) ?_
          refine n_ne (tgt := 67) hx hb (by omega) (by omega) dX3_rate_58 (by decide) (fun hc4 => ?_) (fun hc4 => ?_)
          ·
            refine lv_sipush (v := nI 136) hx hb dX3_rate_67 (by decide) ?_
            have h5 : kk = 5 := by omega
            subst h5
            exact iend hx hb hr hlk () rfl hP hK hD hS (Nat.le_refl _) (Nat.le_refl _) dX3_rate_70
          ·
            refine lv_sipush (v := nI 168) hx hb dX3_rate_61 (by decide) ?_
            refine lv_goto (tgt := 70) hx hb dX3_rate_64 (by decide) ?_
            subst hc4
            exact iend hx hb hr hlk () rfl hP hK hD hS (Nat.le_refl _) (Nat.le_refl _) dX3_rate_70
        ·
          refine lv_bipush (v := nI 72) hx hb dX3_rate_48 (by decide) ?_
          refine lv_goto (tgt := 70) hx hb dX3_rate_50 (by decide) ?_
          subst hc3
          exact iend hx hb hr hlk () rfl hP hK hD hS (Nat.le_refl _) (Nat.le_refl _) dX3_rate_70
      ·
        refine lv_bipush (v := nI 104) hx hb dX3_rate_35 (by decide) ?_
        refine lv_goto (tgt := 70) hx hb dX3_rate_37 (by decide) ?_
        subst hc2
        exact iend hx hb hr hlk () rfl hP hK hD hS (Nat.le_refl _) (Nat.le_refl _) dX3_rate_70
    ·
      refine lv_sipush (v := nI 136) hx hb dX3_rate_21 (by decide) ?_
      refine lv_goto (tgt := 70) hx hb dX3_rate_24 (by decide) ?_
      subst hc1
      exact iend hx hb hr hlk () rfl hP hK hD hS (Nat.le_refl _) (Nat.le_refl _) dX3_rate_70
  ·
    refine lv_sipush (v := nI 144) hx hb dX3_rate_7 (by decide) ?_
    refine lv_goto (tgt := 70) hx hb dX3_rate_10 (by decide) ?_
    subst hc0
    exact iend hx hb hr hlk () rfl hP hK hD hS (Nat.le_refl _) (Nat.le_refl _) dX3_rate_70
set_option maxHeartbeats 1000000 in
set_option maxRecDepth 100000 in
theorem m_msize (l : Launch) (D : va_G) (ca : Nat → ClassId) (g : Nat → Nat) (sz fd kd sh op ln : Int32) (tx ft : Nat → Int32) (wd t cc : Nat → Int64) (an al : Nat → Int32)  : MI l yX3_size cX3_size 1 .int rmz D ca noX [.ref (g 0)] (wMd ca g sz fd kd sh op ln tx ft wd t cc an al) (S := Unit) (fun v _ => v = sz) (fun _ => wMd ca g sz fd kd sh op ln tx ft wd t cc an al) 0 0 := by
  refine MI.of (by decide) (Nat.le_of_ble_eq_true rfl) ?_
  intro p en s m below meth c A hx hb hr hml hlk hown hts hnm hA hP hK hD hS hX ls hl
  have hown : s.vm.findClass RX3 = some m.cls := hown
  have hl : lv_has ls 1 [(0, .ref (g 0))] := hl
  refine lv_aload_n hx hb dX3_size_0 rfl (lv_at hl 0 rfl) ?_
  refine va_get (D := D) (ci := 3) (v := .int sz) (C := RX3) (T := TX3) (N := 13) hx hb hts in_X3 hown hK hP 0 rfl rfl 1 (by decide) (hts _ q205) (fun _ h9 => h9) rfl dX3_size_1 ?_
  exact iend hx hb hr hlk () rfl hP hK hD hS (Nat.le_refl _) (Nat.le_refl _) dX3_size_4
set_option maxHeartbeats 1000000 in
set_option maxRecDepth 100000 in
theorem m_mtrim (l : Launch) (D : va_G) (ca : Nat → ClassId) (g : Nat → Nat) (fd kd sh op ln : Int32) (tx ft : Nat → Int32) (wd t cc : Nat → Int64) (an al : Nat → Int32) (n0 : Nat) (hn0 : n0 ≤ 4096) (x : Int32) : MV l yX3_trim cX3_trim 2 rmMt D ca noX [.ref (g 0), .int x] (wMd ca g (nI n0) fd kd sh op ln tx ft wd t cc an al) (S := Unit) (fun _ => True) (fun _ => wMd ca g (nI (cut x % (n0 + 1))) fd kd sh op ln tx ft wd t cc an al) 0 0 := by
  refine MV.of (by decide) (Nat.le_of_ble_eq_true rfl) ?_
  intro p en s m below meth c A hx hb hr hml hlk hown hts hnm hA hP hK hD hS hX ls hl
  have hown : s.vm.findClass RX3 = some m.cls := hown
  have hl : lv_has ls 2 [(0, .ref (g 0)), (1, .int x)] := hl
  refine lv_aload_n hx hb dX3_trim_0 rfl (lv_at hl 0 rfl) ?_
  refine lv_aload_n hx hb dX3_trim_1 rfl (lv_at hl 0 rfl) ?_
  refine lv_iload_n hx hb dX3_trim_2 rfl (lv_at hl 1 rfl) ?_
  refine cVi (wr := []) (As := [.int x]) (rest := [.ref (g 0)]) ⟨hx, hb, hml, hown, hts⟩ (m_first l D ca g fd kd sh op ln tx ft wd t cc an al n0 hn0 x) (cwV 1 hts (lw_V q253 q255 qs6 q15 q256) rfl rfl rfl (by decide +kernel) ⟨Nat.le_of_ble_eq_true rfl, Nat.le_of_ble_eq_true rfl⟩) hK hP hD hS hA [0, 1, 2, 3, 4, 5, 6, 7] [] rfl rfl (by decide) (by decide) (by decide) 0 3 rfl rfl rfl (fun _ _ _ _ _ _ => trivial) (fun _ _ _ => trivial) rfl hl.1 rfl (Nat.le_of_ble_eq_true rfl) dX3_trim_3 ⟨Nat.le_of_ble_eq_true rfl, Nat.le_of_ble_eq_true rfl⟩ (fun v _ H locs hpo hP hD hS => ?_)
  have hP : va_P D vwCl (wMd ca g (nI n0) fd kd sh op ln tx ft wd t cc an al) H := hP
  have hD : va_D A (wMd ca g (nI n0) fd kd sh op ln tx ft wd t cc an al) := hD
  have hpo : v = nI (cut x % (n0 + 1)) := hpo
  refine tpi (y := nI (cut x % (n0 + 1))) (hpo) ?_
  refine va_put (D := D) (ci := 3) (v := .int (nI (cut x % (n0 + 1)))) (ty := .int) (C := RX3) (T := TX3) (N := 13) hx hb hts in_X3 tyX3 tyX3_ok nmX3 hown hK hP hD hS 0 rfl rfl 1 (by decide) (hts _ q205) (fun _ h9 => h9) rfl (by decide +kernel) rfl rfl (Nat.le_of_ble_eq_true rfl) dX3_trim_6 (fun H locs hP hD hS => ?_)
  have hP : va_P D vwCl (wMd ca g (nI (cut x % (n0 + 1))) fd kd sh op ln tx ft wd t cc an al) H := hP
  have hD : va_D A (wMd ca g (nI (cut x % (n0 + 1))) fd kd sh op ln tx ft wd t cc an al) := hD
  exact vend hx hb hr hlk () trivial hP hK hD hS (Nat.le_refl _) (Nat.le_refl _) dX3_trim_9
set_option maxHeartbeats 1000000 in
set_option maxRecDepth 100000 in
theorem m_mbegin (l : Launch) (D : va_G) (ca : Nat → ClassId) (g : Nat → Nat) (sz fd kd sh op ln : Int32) (tx ft : Nat → Int32) (wd t cc : Nat → Int64) (an al : Nat → Int32) (x : Int32) : MV l yX3_begin cX3_begin 2 rmz D ca noX [.ref (g 0), .int x] (wMd ca g sz fd kd sh op ln tx ft wd t cc an al) (S := Unit) (fun _ => True) (fun _ => wMd ca g sz (nI 0) (nI (cut x % 6)) (nI 0) (nI 1) (nI 0) tx ft wd t cc an al) 0 0 := by
  refine MV.of (by decide) (Nat.le_of_ble_eq_true rfl) ?_
  intro p en s m below meth c A hx hb hr hml hlk hown hts hnm hA hP hK hD hS hX ls hl
  have hown : s.vm.findClass RX3 = some m.cls := hown
  have hl : lv_has ls 2 [(0, .ref (g 0)), (1, .int x)] := hl
  refine lv_aload_n hx hb dX3_begin_0 rfl (lv_at hl 0 rfl) ?_
  refine lv_iload_n hx hb dX3_begin_1 rfl (lv_at hl 1 rfl) ?_
  refine lv_ldc hx hb hown (hts _ q257) dX3_begin_2 ?_
  refine lv_iand hx hb dX3_begin_4 ?_
  refine tpi (y := nI (cut x)) ((cut_eq x).1) ?_
  refine lv_bipush (v := nI 6) hx hb dX3_begin_5 (by decide) ?_
  refine n_rem hx hb ((cut_eq x).2) (by omega) (by omega) dX3_begin_7 ?_
  refine va_put (D := D) (ci := 3) (v := .int (nI ((cut x) % 6))) (ty := .int) (C := RX3) (T := TX3) (N := 13) hx hb hts in_X3 tyX3 tyX3_ok nmX3 hown hK hP hD hS 0 rfl rfl 4 (by decide) (hts _ q208) (fun _ h9 => h9) rfl (by decide +kernel) rfl rfl (Nat.le_of_ble_eq_true rfl) dX3_begin_8 (fun H locs hP hD hS => ?_)
  have hP : va_P D vwCl (wMd ca g sz fd (nI ((cut x) % 6)) sh op ln tx ft wd t cc an al) H := hP
  have hD : va_D A (wMd ca g sz fd (nI ((cut x) % 6)) sh op ln tx ft wd t cc an al) := hD
  refine lv_aload_n hx hb dX3_begin_11 rfl (lv_at hl 0 rfl) ?_
  refine lv_iconst (v := nI 0) hx hb dX3_begin_12 (by decide) ?_
  refine va_put (D := D) (ci := 3) (v := .int (nI 0)) (ty := .int) (C := RX3) (T := TX3) (N := 13) hx hb hts in_X3 tyX3 tyX3_ok nmX3 hown hK hP hD hS 0 rfl rfl 3 (by decide) (hts _ q207) (fun _ h9 => h9) rfl (by decide +kernel) rfl rfl (Nat.le_of_ble_eq_true rfl) dX3_begin_13 (fun H locs hP hD hS => ?_)
  have hP : va_P D vwCl (wMd ca g sz (nI 0) (nI ((cut x) % 6)) sh op ln tx ft wd t cc an al) H := hP
  have hD : va_D A (wMd ca g sz (nI 0) (nI ((cut x) % 6)) sh op ln tx ft wd t cc an al) := hD
  refine lv_aload_n hx hb dX3_begin_16 rfl (lv_at hl 0 rfl) ?_
  refine lv_iconst (v := nI 0) hx hb dX3_begin_17 (by decide) ?_
  refine va_put (D := D) (ci := 3) (v := .int (nI 0)) (ty := .int) (C := RX3) (T := TX3) (N := 13) hx hb hts in_X3 tyX3 tyX3_ok nmX3 hown hK hP hD hS 0 rfl rfl 5 (by decide) (hts _ q209) (fun _ h9 => h9) rfl (by decide +kernel) rfl rfl (Nat.le_of_ble_eq_true rfl) dX3_begin_18 (fun H locs hP hD hS => ?_)
  have hP : va_P D vwCl (wMd ca g sz (nI 0) (nI ((cut x) % 6)) (nI 0) op ln tx ft wd t cc an al) H := hP
  have hD : va_D A (wMd ca g sz (nI 0) (nI ((cut x) % 6)) (nI 0) op ln tx ft wd t cc an al) := hD
  refine lv_aload_n hx hb dX3_begin_21 rfl (lv_at hl 0 rfl) ?_
  refine lv_iconst (v := nI 1) hx hb dX3_begin_22 (by decide) ?_
  refine va_put (D := D) (ci := 3) (v := .int (nI 1)) (ty := .boolean) (C := RX3) (T := TX3) (N := 13) hx hb hts in_X3 tyX3 tyX3_ok nmX3 hown hK hP hD hS 0 rfl rfl 6 (by decide) (hts _ q210) (fun _ h9 => h9) rfl (by decide +kernel) rfl rfl (Nat.le_of_ble_eq_true rfl) dX3_begin_23 (fun H locs hP hD hS => ?_)
  have hP : va_P D vwCl (wMd ca g sz (nI 0) (nI ((cut x) % 6)) (nI 0) (nI 1) ln tx ft wd t cc an al) H := hP
  have hD : va_D A (wMd ca g sz (nI 0) (nI ((cut x) % 6)) (nI 0) (nI 1) ln tx ft wd t cc an al) := hD
  refine lv_aload_n hx hb dX3_begin_26 rfl (lv_at hl 0 rfl) ?_
  refine lv_iconst (v := nI 0) hx hb dX3_begin_27 (by decide) ?_
  refine va_put (D := D) (ci := 3) (v := .int (nI 0)) (ty := .int) (C := RX3) (T := TX3) (N := 13) hx hb hts in_X3 tyX3 tyX3_ok nmX3 hown hK hP hD hS 0 rfl rfl 11 (by decide) (hts _ q215) (fun _ h9 => h9) rfl (by decide +kernel) rfl rfl (Nat.le_of_ble_eq_true rfl) dX3_begin_28 (fun H locs hP hD hS => ?_)
  have hP : va_P D vwCl (wMd ca g sz (nI 0) (nI ((cut x) % 6)) (nI 0) (nI 1) (nI 0) tx ft wd t cc an al) H := hP
  have hD : va_D A (wMd ca g sz (nI 0) (nI ((cut x) % 6)) (nI 0) (nI 1) (nI 0) tx ft wd t cc an al) := hD
  exact vend hx hb hr hlk () trivial hP hK hD hS (Nat.le_refl _) (Nat.le_refl _) dX3_begin_31
set_option maxHeartbeats 1000000 in
set_option maxRecDepth 100000 in
theorem m_mput_no (l : Launch) (D : va_G) (ca : Nat → ClassId) (g : Nat → Nat) (fd kd sh op ln : Int32) (tx ft : Nat → Int32) (wd t cc : Nat → Int64) (an al : Nat → Int32) (n0 : Nat) (hn0 : n0 ≤ 4096) (h16 : 4080 < n0) (b1 b2 b3 b4 : Int32) : MI l yX3_put cX3_put 7 .boolean rmz D ca noX [.ref (g 0), .int b1, .int b2, .int b3, .int b4] (wMd ca g (nI n0) fd kd sh op ln tx ft wd t cc an al) (S := Unit) (fun v _ => v = nI 0) (fun _ => wMd ca g (nI n0) fd kd sh op ln tx ft wd t cc an al) 0 0 := by
  refine MI.of (by decide) (Nat.le_of_ble_eq_true rfl) ?_
  intro p en s m below meth c A hx hb hr hml hlk hown hts hnm hA hP hK hD hS hX ls hl
  have hown : s.vm.findClass RX3 = some m.cls := hown
  have hl : lv_has ls 7 [(0, .ref (g 0)), (1, .int b1), (2, .int b2), (3, .int b3), (4, .int b4)] := hl
  refine lv_aload_n hx hb dX3_put_0 rfl (lv_at hl 0 rfl) ?_
  refine va_get (D := D) (ci := 3) (v := .int (nI n0)) (C := RX3) (T := TX3) (N := 13) hx hb hts in_X3 hown hK hP 0 rfl rfl 1 (by decide) (hts _ q205) (fun _ h9 => h9) rfl dX3_put_1 ?_
  refine lv_bipush (v := nI 16) hx hb dX3_put_4 (by decide) ?_
  refine n_add hx hb dX3_put_6 ?_
  refine lv_sipush (v := nI 4096) hx hb dX3_put_7 (by decide) ?_
  refine n_le (tgt := 15) hx hb (by omega) (by omega) dX3_put_10 (by decide) (fun hc => ?_) (fun hc => ?_)
  ·
    omega
  ·
    refine lv_iconst (v := nI 0) hx hb dX3_put_13 (by decide) ?_
    exact zend hx hb hr rfl hlk () rfl hP hK hD hS (Nat.le_refl _) (Nat.le_refl _) dX3_put_14
section MPU
variable {p : Program} {l : Launch} {en : Env} {s : State} {m : MethodId} {args : Array Value} {below : List Frame} {meth : Method} {c : Code} {Q : State → Prop} {D : va_G} {ca : Nat → ClassId} {A : Nat → Prop} {g : Nat → Nat}
set_option maxHeartbeats 1000000 in
set_option maxRecDepth 100000 in
theorem mpu_lp (fd kd sh op ln : Int32) (tx ft : Nat → Int32) (wd t cc : Nat → Int64) (an al : Nat → Int32) (n0 : Nat) (h16 : n0 ≤ 4080) (b1 b2 b3 b4 : Int32) (F : Fix p m c cX3_put 7 s args RX3 A D ca)
    (K : ∀ (H : Heap) (locs : List Loc) (ls : Array Slot), Sta D A s (wMd ca g (nI n0) fd kd sh op ln (rng n0 16 (fun q => mby b1 b2 b3 b4 (q - n0)) tx) ft wd t cc an al) H locs → lv_has ls 7 [(5, .int (nI 16)), (0, .ref (g 0)), (1, .int b1), (2, .int b2), (3, .int b3), (4, .int b4)] → W p l en rmz s m args below meth c H locs 0 0 Q (F0 m 93 ls [])) :
    ∀ (n k : Nat), k ≤ 16 → 16 + 1 ≤ k + n → ∀ (H : Heap) (locs : List Loc) (ls : Array Slot), Sta D A s (wMd ca g (nI n0) fd kd sh op ln (rng n0 k (fun q => mby b1 b2 b3 b4 (q - n0)) tx) ft wd t cc an al) H locs → lv_has ls 7 [(5, .int (nI k)), (0, .ref (g 0)), (1, .int b1), (2, .int b2), (3, .int b3), (4, .int b4)] → W p l en rmz s m args below meth c H locs 0 0 Q (F0 m 18 ls []) := by
  obtain ⟨hx, hb, hml, hown, hts, hA, hK⟩ := F
  intro n
  induction n with
  | zero => intro k h1 h2; omega
  | succ n ih =>
    intro k hi hn H locs ls hst hl
    obtain ⟨hP, hD, hS⟩ := hst
    refine lv_iload hx hb dX3_put_18 (lv_at hl 0 rfl) ?_
    refine lv_bipush (v := nI 16) hx hb dX3_put_20 (by decide) ?_
    refine n_ge (tgt := 93) hx hb (by omega) (by omega) dX3_put_22 (by decide) (fun hc => ?_) (fun hc => ?_)
    ·
      have e5 : k = 16 := by omega
      subst e5
      exact K H locs ls ⟨hP, hD, hS⟩ hl
    ·
      have tail : W p l en rmz s m args below meth c H locs 0 0 Q (F0 m 59 ls [.int (wsel b1 b2 b3 b4 k)]) := by
        refine lv_istore (lv' := [(6, .int (wsel b1 b2 b3 b4 k)), (5, .int (nI k)), (0, .ref (g 0)), (1, .int b1), (2, .int b2), (3, .int b3), (4, .int b4)]) hx hb dX3_put_59 hl (by decide) rfl (fun ls hl => ?_)
        refine lv_aload_n hx hb dX3_put_61 rfl (lv_at hl 2 rfl) ?_
        refine va_get (D := D) (ci := 3) (v := .ref (g 1)) (C := RX3) (T := TX3) (N := 13) hx hb hts in_X3 hown hK hP 0 rfl rfl 0 (by decide) (hts _ q204) (fun _ h9 => h9) rfl dX3_put_62 ?_
        refine lv_aload_n hx hb dX3_put_65 rfl (lv_at hl 2 rfl) ?_
        refine va_get (D := D) (ci := 3) (v := .int (nI n0)) (C := RX3) (T := TX3) (N := 13) hx hb hts in_X3 hown hK hP 0 rfl rfl 1 (by decide) (hts _ q205) (fun _ h9 => h9) rfl dX3_put_66 ?_
        refine lv_iload hx hb dX3_put_69 (lv_at hl 1 rfl) ?_
        refine n_add hx hb dX3_put_71 ?_
        refine lv_iload hx hb dX3_put_72 (lv_at hl 0 rfl) ?_
        refine lv_bipush (v := nI 24) hx hb dX3_put_74 (by decide) ?_
        refine lv_bipush (v := nI 8) hx hb dX3_put_76 (by decide) ?_
        refine lv_iload hx hb dX3_put_78 (lv_at hl 1 rfl) ?_
        refine lv_iconst (v := nI 3) hx hb dX3_put_80 (by decide) ?_
        refine lv_iand hx hb dX3_put_81 ?_
        refine tpi (y := nI (k % 4)) (pk_andN (m := nI 3) (by omega) 2 (by decide)) ?_
        refine n_mul hx hb dX3_put_82 ?_
        refine n_sub hx hb (by omega) dX3_put_83 ?_
        refine lv_iushr hx hb dX3_put_84 rfl ?_
        refine lv_i2b hx hb dX3_put_85 rfl ?_
        refine n_bast (ws' := wMd ca g (nI n0) fd kd sh op ln (rng n0 (k + 1) (fun q => mby b1 b2 b3 b4 (q - n0)) tx) ft wd t cc an al) hx hb hK hP hD hS 1 1 (rng n0 (k + 1) (fun q => mby b1 b2 b3 b4 (q - n0)) tx) rfl rfl (by omega) (by decide) (fun q _ => rng_up (by show _ = mby b1 b2 b3 b4 (n0 + k - n0); rw [Nat.add_sub_cancel_left]; rfl) q) rfl dX3_put_86 (fun H locs hP hD hS => ?_)
        refine lv_iinc (v := nI (k + 1)) (lv' := [(5, .int (nI (k + 1))), (6, .int (wsel b1 b2 b3 b4 k)), (0, .ref (g 0)), (1, .int b1), (2, .int b2), (3, .int b3), (4, .int b4)]) hx hb dX3_put_87 hl (k := 1) rfl (nI_add _ 1) (by decide) rfl (fun ls hl => ?_)
        refine lv_goto (tgt := 18) hx hb dX3_put_90 (by decide) ?_
        exact ih (k + 1) (by omega) (by omega) H locs ls ⟨hP, hD, hS⟩ (lv_sub hl [0, 2, 3, 4, 5, 6] rfl)
      refine lv_iload hx hb dX3_put_25 (lv_at hl 0 rfl) ?_
      refine lv_iconst (v := nI 4) hx hb dX3_put_27 (by decide) ?_
      refine n_ge (tgt := 35) hx hb (by omega) (by omega) dX3_put_28 (by decide) (fun hs0 => ?_) (fun hs0 => ?_)
      ·
        refine lv_iload hx hb dX3_put_35 (lv_at hl 0 rfl) ?_
        refine lv_bipush (v := nI 8) hx hb dX3_put_37 (by decide) ?_
        refine n_ge (tgt := 46) hx hb (by omega) (by omega) dX3_put_39 (by decide) (fun hs1 => ?_) (fun hs1 => ?_)
        ·
          refine lv_iload hx hb dX3_put_46 (lv_at hl 0 rfl) ?_
          refine lv_bipush (v := nI 12) hx hb dX3_put_48 (by decide) ?_
          refine n_ge (tgt := 57) hx hb (by omega) (by omega) dX3_put_50 (by decide) (fun hs2 => ?_) (fun hs2 => ?_)
          ·
            refine lv_iload hx hb dX3_put_57 (lv_at hl 5 rfl) ?_
            refine tpi (y := wsel b1 b2 b3 b4 k) (by unfold wsel; rw [if_neg (show ¬ k < 4 by omega), if_neg (show ¬ k < 8 by omega), if_neg (show ¬ k < 12 by omega)]) ?_
            exact tail
          ·
            refine lv_iload_n hx hb dX3_put_53 rfl (lv_at hl 4 rfl) ?_
            refine lv_goto (tgt := 59) hx hb dX3_put_54 (by decide) ?_
            refine tpi (y := wsel b1 b2 b3 b4 k) (by unfold wsel; rw [if_neg (show ¬ k < 4 by omega), if_neg (show ¬ k < 8 by omega), if_pos hs2]) ?_
            exact tail
        ·
          refine lv_iload_n hx hb dX3_put_42 rfl (lv_at hl 3 rfl) ?_
          refine lv_goto (tgt := 59) hx hb dX3_put_43 (by decide) ?_
          refine tpi (y := wsel b1 b2 b3 b4 k) (by unfold wsel; rw [if_neg (show ¬ k < 4 by omega), if_pos hs1]) ?_
          exact tail
      ·
        refine lv_iload_n hx hb dX3_put_31 rfl (lv_at hl 2 rfl) ?_
        refine lv_goto (tgt := 59) hx hb dX3_put_32 (by decide) ?_
        refine tpi (y := wsel b1 b2 b3 b4 k) (by unfold wsel; rw [if_pos hs0]) ?_
        exact tail
end MPU
set_option maxHeartbeats 1000000 in
set_option maxRecDepth 100000 in
theorem m_mput (l : Launch) (D : va_G) (ca : Nat → ClassId) (g : Nat → Nat) (fd kd sh op ln : Int32) (tx ft : Nat → Int32) (wd t cc : Nat → Int64) (an al : Nat → Int32) (n0 : Nat) (h16 : n0 ≤ 4080) (b1 b2 b3 b4 : Int32) : MI l yX3_put cX3_put 7 .boolean rmz D ca noX [.ref (g 0), .int b1, .int b2, .int b3, .int b4] (wMd ca g (nI n0) fd kd sh op ln tx ft wd t cc an al) (S := Unit) (fun v _ => v = nI 1) (fun _ => wMd ca g (nI (n0 + 16)) fd kd sh op ln (rng n0 16 (fun q => mby b1 b2 b3 b4 (q - n0)) tx) ft wd t cc an al) 0 0 := by
  refine MI.of (by decide) (Nat.le_of_ble_eq_true rfl) ?_
  intro p en s m below meth c A hx hb hr hml hlk hown hts hnm hA hP hK hD hS hX ls hl
  have hown : s.vm.findClass RX3 = some m.cls := hown
  have hl : lv_has ls 7 [(0, .ref (g 0)), (1, .int b1), (2, .int b2), (3, .int b3), (4, .int b4)] := hl
  have F1 : Fix p m c cX3_put 7 s _ RX3 A D ca := ⟨hx, hb, hml, hown, hts, hA, hK⟩
  refine lv_aload_n hx hb dX3_put_0 rfl (lv_at hl 0 rfl) ?_
  refine va_get (D := D) (ci := 3) (v := .int (nI n0)) (C := RX3) (T := TX3) (N := 13) hx hb hts in_X3 hown hK hP 0 rfl rfl 1 (by decide) (hts _ q205) (fun _ h9 => h9) rfl dX3_put_1 ?_
  refine lv_bipush (v := nI 16) hx hb dX3_put_4 (by decide) ?_
  refine n_add hx hb dX3_put_6 ?_
  refine lv_sipush (v := nI 4096) hx hb dX3_put_7 (by decide) ?_
  refine n_le (tgt := 15) hx hb (by omega) (by omega) dX3_put_10 (by decide) (fun hc => ?_) (fun hc => ?_)
  ·
    refine lv_iconst (v := nI 0) hx hb dX3_put_15 (by decide) ?_
    refine lv_istore (lv' := [(5, .int (nI 0)), (0, .ref (g 0)), (1, .int b1), (2, .int b2), (3, .int b3), (4, .int b4)]) hx hb dX3_put_16 hl (by decide) rfl (fun ls hl => ?_)
    have hP : va_P D vwCl (wMd ca g (nI n0) fd kd sh op ln (rng n0 0 (fun q => mby b1 b2 b3 b4 (q - n0)) tx) ft wd t cc an al) s.heap := by rw [rng_0]; exact hP
    have hD : va_D A (wMd ca g (nI n0) fd kd sh op ln (rng n0 0 (fun q => mby b1 b2 b3 b4 (q - n0)) tx) ft wd t cc an al) := by rw [rng_0]; exact hD
    refine mpu_lp fd kd sh op ln tx ft wd t cc an al n0 h16 b1 b2 b3 b4 F1 (fun H locs ls hst hl => ?_) 17 0 (by omega) (by omega) _ _ ls ⟨hP, hD, hS⟩ hl
    obtain ⟨hP, hD, hS⟩ := hst
    refine lv_aload_n hx hb dX3_put_93 rfl (lv_at hl 1 rfl) ?_
    refine lv_aload_n hx hb dX3_put_94 rfl (lv_at hl 1 rfl) ?_
    refine va_get (D := D) (ci := 3) (v := .int (nI n0)) (C := RX3) (T := TX3) (N := 13) hx hb hts in_X3 hown hK hP 0 rfl rfl 1 (by decide) (hts _ q205) (fun _ h9 => h9) rfl dX3_put_95 ?_
    refine lv_bipush (v := nI 16) hx hb dX3_put_98 (by decide) ?_
    refine n_add hx hb dX3_put_100 ?_
    refine va_put (D := D) (ci := 3) (v := .int (nI (n0 + 16))) (ty := .int) (C := RX3) (T := TX3) (N := 13) hx hb hts in_X3 tyX3 tyX3_ok nmX3 hown hK hP hD hS 0 rfl rfl 1 (by decide) (hts _ q205) (fun _ h9 => h9) rfl (by decide +kernel) rfl rfl (Nat.le_of_ble_eq_true rfl) dX3_put_101 (fun H locs hP hD hS => ?_)
    have hP : va_P D vwCl (wMd ca g (nI (n0 + 16)) fd kd sh op ln (rng n0 16 (fun q => mby b1 b2 b3 b4 (q - n0)) tx) ft wd t cc an al) H := hP
    have hD : va_D A (wMd ca g (nI (n0 + 16)) fd kd sh op ln (rng n0 16 (fun q => mby b1 b2 b3 b4 (q - n0)) tx) ft wd t cc an al) := hD
    refine lv_iconst (v := nI 1) hx hb dX3_put_104 (by decide) ?_
    exact zend hx hb hr rfl hlk () rfl hP hK hD hS (Nat.le_refl _) (Nat.le_refl _) dX3_put_105
  ·
    omega
set_option maxHeartbeats 1000000 in
set_option maxRecDepth 100000 in
theorem m_mfeed_no (l : Launch) (D : va_G) (ca : Nat → ClassId) (g : Nat → Nat) (kd sh ln : Int32) (tx ft : Nat → Int32) (wd t cc : Nat → Int64) (an al : Nat → Int32) (n0 f fr mn : Nat) (hn0 : n0 ≤ 4096) (hf : f ≤ 2048) (wh nn : Int32) (hfr : fr = cut wh % (n0 + 1)) (hmn : mn = cut nn % (n0 - fr + 1)) (op : Nat) (hop : op ≤ 1) (hno : op = 0 ∨ 2048 < f + mn) : MI l yX3_feed cX3_feed 6 .boolean rmMf D ca noX [.ref (g 0), .int wh, .int nn] (wMd ca g (nI n0) (nI f) kd sh (nI op) ln tx ft wd t cc an al) (S := Unit) (fun v _ => v = nI 0) (fun _ => wMd ca g (nI n0) (nI f) kd sh (nI op) ln tx ft wd t cc an al) 0 0 := by
  refine MI.of (by decide) (Nat.le_of_ble_eq_true rfl) ?_
  intro p en s m below meth c A hx hb hr hml hlk hown hts hnm hA hP hK hD hS hX ls hl
  have hown : s.vm.findClass RX3 = some m.cls := hown
  have hl : lv_has ls 6 [(0, .ref (g 0)), (1, .int wh), (2, .int nn)] := hl
  have hfl : fr < n0 + 1 := by rw [hfr]; exact Nat.mod_lt _ (by omega)
  have hml2 : mn < n0 - fr + 1 := by rw [hmn]; exact Nat.mod_lt _ (by omega)
  refine lv_aload_n hx hb dX3_feed_0 rfl (lv_at hl 0 rfl) ?_
  refine lv_iload_n hx hb dX3_feed_1 rfl (lv_at hl 1 rfl) ?_
  refine cVi (wr := []) (As := [.int wh]) (rest := []) ⟨hx, hb, hml, hown, hts⟩ (m_first l D ca g (nI f) kd sh (nI op) ln tx ft wd t cc an al n0 hn0 wh) (cwV 1 hts (lw_V q253 q255 qs6 q15 q256) rfl rfl rfl (by decide +kernel) ⟨Nat.le_of_ble_eq_true rfl, Nat.le_of_ble_eq_true rfl⟩) hK hP hD hS hA [0, 1, 2, 3, 4, 5, 6, 7] [] rfl rfl (by decide) (by decide) (by decide) 0 3 rfl rfl rfl (fun _ _ _ _ _ _ => trivial) (fun _ _ _ => trivial) rfl hl.1 rfl (Nat.le_of_ble_eq_true rfl) dX3_feed_2 ⟨Nat.le_of_ble_eq_true rfl, Nat.le_of_ble_eq_true rfl⟩ (fun v1 _ H locs hpo hP hD hS => ?_)
  have hP : va_P D vwCl (wMd ca g (nI n0) (nI f) kd sh (nI op) ln tx ft wd t cc an al) H := hP
  have hD : va_D A (wMd ca g (nI n0) (nI f) kd sh (nI op) ln tx ft wd t cc an al) := hD
  have hpo : v1 = nI (cut wh % (n0 + 1)) := hpo
  refine tpi (y := nI fr) (hpo.trans (congrArg nI hfr.symm)) ?_
  refine lv_istore_n (lv' := [(3, .int (nI fr)), (0, .ref (g 0)), (1, .int wh), (2, .int nn)]) hx hb dX3_feed_5 rfl hl (by decide) rfl (fun ls hl => ?_)
  refine lv_aload_n hx hb dX3_feed_6 rfl (lv_at hl 1 rfl) ?_
  refine lv_iload_n hx hb dX3_feed_7 rfl (lv_at hl 0 rfl) ?_
  refine lv_iload_n hx hb dX3_feed_8 rfl (lv_at hl 3 rfl) ?_
  refine cVi (wr := []) (As := [.int (nI fr), .int nn]) (rest := []) ⟨hx, hb, hml, hown, hts⟩ (m_many l D ca g (nI f) kd sh (nI op) ln tx ft wd t cc an al n0 fr hn0 (by omega) nn) (cwV 2 hts (lw_V q270 q272 qs7 q15 q273) rfl rfl rfl (by decide +kernel) ⟨Nat.le_of_ble_eq_true rfl, Nat.le_of_ble_eq_true rfl⟩) hK hP hD hS hA [0, 1, 2, 3, 4, 5, 6, 7] [] rfl rfl (by decide) (by decide) (by decide) 0 3 rfl rfl rfl (fun _ _ _ _ _ _ => trivial) (fun _ _ _ => trivial) rfl hl.1 rfl (Nat.le_of_ble_eq_true rfl) dX3_feed_9 ⟨Nat.le_of_ble_eq_true rfl, Nat.le_of_ble_eq_true rfl⟩ (fun v2 _ H locs hpo hP hD hS => ?_)
  have hP : va_P D vwCl (wMd ca g (nI n0) (nI f) kd sh (nI op) ln tx ft wd t cc an al) H := hP
  have hD : va_D A (wMd ca g (nI n0) (nI f) kd sh (nI op) ln tx ft wd t cc an al) := hD
  have hpo : v2 = nI (cut nn % (n0 - fr + 1)) := hpo
  refine tpi (y := nI mn) (hpo.trans (congrArg nI hmn.symm)) ?_
  refine lv_istore (lv' := [(4, .int (nI mn)), (3, .int (nI fr)), (0, .ref (g 0)), (1, .int wh), (2, .int nn)]) hx hb dX3_feed_12 hl (by decide) rfl (fun ls hl => ?_)
  refine lv_aload_n hx hb dX3_feed_14 rfl (lv_at hl 2 rfl) ?_
  refine va_get (D := D) (ci := 3) (v := .int (nI op)) (C := RX3) (T := TX3) (N := 13) hx hb hts in_X3 hown hK hP 0 rfl rfl 6 (by decide) (hts _ q210) (fun _ h9 => h9) rfl dX3_feed_15 ?_
  refine n_ifeq (tgt := 34) hx hb (by omega) dX3_feed_18 (by decide) (fun hc => ?_) (fun hc => ?_)
  ·
    refine lv_iconst (v := nI 0) hx hb dX3_feed_34 (by decide) ?_
    exact zend hx hb hr rfl hlk () rfl hP hK hD hS (Nat.le_refl _) (Nat.le_refl _) dX3_feed_35
  ·
    refine lv_aload_n hx hb dX3_feed_21 rfl (lv_at hl 2 rfl) ?_
    refine va_get (D := D) (ci := 3) (v := .int (nI f)) (C := RX3) (T := TX3) (N := 13) hx hb hts in_X3 hown hK hP 0 rfl rfl 3 (by decide) (hts _ q207) (fun _ h9 => h9) rfl dX3_feed_22 ?_
    refine lv_iload hx hb dX3_feed_25 (lv_at hl 0 rfl) ?_
    refine n_add hx hb dX3_feed_27 ?_
    refine lv_sipush (v := nI 2048) hx hb dX3_feed_28 (by decide) ?_
    refine n_le (tgt := 36) hx hb (by omega) (by omega) dX3_feed_31 (by decide) (fun hc2 => ?_) (fun hc2 => ?_)
    ·
      omega
    ·
      refine lv_iconst (v := nI 0) hx hb dX3_feed_34 (by decide) ?_
      exact zend hx hb hr rfl hlk () rfl hP hK hD hS (Nat.le_refl _) (Nat.le_refl _) dX3_feed_35
section MFE
variable {p : Program} {l : Launch} {en : Env} {s : State} {m : MethodId} {args : Array Value} {below : List Frame} {meth : Method} {c : Code} {Q : State → Prop} {D : va_G} {ca : Nat → ClassId} {A : Nat → Prop} {g : Nat → Nat}
set_option maxHeartbeats 1000000 in
set_option maxRecDepth 100000 in
theorem mfe_lp (kd sh ln : Int32) (tx ft : Nat → Int32) (wd t cc : Nat → Int64) (an al : Nat → Int32) (n0 f fr mn : Nat) (hn0 : n0 ≤ 4096) (hfm : fr + mn ≤ n0) (hok : f + mn ≤ 2048) (F : Fix p m c cX3_feed 6 s args RX3 A D ca)
    (K : ∀ (H : Heap) (locs : List Loc) (ls : Array Slot), Sta D A s (wMd ca g (nI n0) (nI f) kd sh (nI 1) ln tx (rng f mn (fun q => (tx (fr + (q - f))).toInt8.toInt32) ft) wd t cc an al) H locs → lv_has ls 6 [(5, .int (nI mn)), (4, .int (nI mn)), (3, .int (nI fr)), (0, .ref (g 0))] → W p l en rmMf s m args below meth c H locs 0 0 Q (F0 m 73 ls [])) :
    ∀ (n k : Nat), k ≤ mn → mn + 1 ≤ k + n → ∀ (H : Heap) (locs : List Loc) (ls : Array Slot), Sta D A s (wMd ca g (nI n0) (nI f) kd sh (nI 1) ln tx (rng f k (fun q => (tx (fr + (q - f))).toInt8.toInt32) ft) wd t cc an al) H locs → lv_has ls 6 [(5, .int (nI k)), (4, .int (nI mn)), (3, .int (nI fr)), (0, .ref (g 0))] → W p l en rmMf s m args below meth c H locs 0 0 Q (F0 m 39 ls []) := by
  obtain ⟨hx, hb, hml, hown, hts, hA, hK⟩ := F
  intro n
  induction n with
  | zero => intro k h1 h2; omega
  | succ n ih =>
    intro k hi hn H locs ls hst hl
    obtain ⟨hP, hD, hS⟩ := hst
    refine lv_iload hx hb dX3_feed_39 (lv_at hl 0 rfl) ?_
    refine lv_iload hx hb dX3_feed_41 (lv_at hl 1 rfl) ?_
    refine n_ge (tgt := 73) hx hb (by omega) (by omega) dX3_feed_43 (by decide) (fun hc => ?_) (fun hc => ?_)
    ·
      have e5 : k = mn := by omega
      subst e5
      exact K H locs ls ⟨hP, hD, hS⟩ hl
    ·
      refine lv_aload_n hx hb dX3_feed_46 rfl (lv_at hl 3 rfl) ?_
      refine va_get (D := D) (ci := 3) (v := .ref (g 2)) (C := RX3) (T := TX3) (N := 13) hx hb hts in_X3 hown hK hP 0 rfl rfl 2 (by decide) (hts _ q206) (fun _ h9 => h9) rfl dX3_feed_47 ?_
      refine lv_aload_n hx hb dX3_feed_50 rfl (lv_at hl 3 rfl) ?_
      refine va_get (D := D) (ci := 3) (v := .int (nI f)) (C := RX3) (T := TX3) (N := 13) hx hb hts in_X3 hown hK hP 0 rfl rfl 3 (by decide) (hts _ q207) (fun _ h9 => h9) rfl dX3_feed_51 ?_
      refine lv_iload hx hb dX3_feed_54 (lv_at hl 0 rfl) ?_
      refine n_add hx hb dX3_feed_56 ?_
      refine lv_aload_n hx hb dX3_feed_57 rfl (lv_at hl 3 rfl) ?_
      refine va_get (D := D) (ci := 3) (v := .ref (g 1)) (C := RX3) (T := TX3) (N := 13) hx hb hts in_X3 hown hK hP 0 rfl rfl 0 (by decide) (hts _ q204) (fun _ h9 => h9) rfl dX3_feed_58 ?_
      refine lv_iload_n hx hb dX3_feed_61 rfl (lv_at hl 2 rfl) ?_
      refine lv_iload hx hb dX3_feed_62 (lv_at hl 0 rfl) ?_
      refine n_add hx hb dX3_feed_64 ?_
      refine n_bald (v := tx (fr + k)) hx hb hK hP 1 1 rfl rfl (by omega) (by decide) (rfl) dX3_feed_65 ?_
      refine n_bast (ws' := wMd ca g (nI n0) (nI f) kd sh (nI 1) ln tx (rng f (k + 1) (fun q => (tx (fr + (q - f))).toInt8.toInt32) ft) wd t cc an al) hx hb hK hP hD hS 2 1 (rng f (k + 1) (fun q => (tx (fr + (q - f))).toInt8.toInt32) ft) rfl rfl (by omega) (by decide) (fun q _ => rng_up (by show _ = (tx (fr + (f + k - f))).toInt8.toInt32; rw [Nat.add_sub_cancel_left]) q) rfl dX3_feed_66 (fun H locs hP hD hS => ?_)
      refine lv_iinc (v := nI (k + 1)) (lv' := [(5, .int (nI (k + 1))), (4, .int (nI mn)), (3, .int (nI fr)), (0, .ref (g 0))]) hx hb dX3_feed_67 hl (k := 0) rfl (nI_add _ 1) (by decide) rfl (fun ls hl => ?_)
      refine lv_goto (tgt := 39) hx hb dX3_feed_70 (by decide) ?_
      exact ih (k + 1) (by omega) (by omega) H locs ls ⟨hP, hD, hS⟩ hl
end MFE
set_option maxHeartbeats 1000000 in
set_option maxRecDepth 100000 in
theorem m_mfeed (l : Launch) (D : va_G) (ca : Nat → ClassId) (g : Nat → Nat) (kd sh ln : Int32) (tx ft : Nat → Int32) (wd t cc : Nat → Int64) (an al : Nat → Int32) (n0 f fr mn : Nat) (hn0 : n0 ≤ 4096) (hf : f ≤ 2048) (wh nn : Int32) (hfr : fr = cut wh % (n0 + 1)) (hmn : mn = cut nn % (n0 - fr + 1)) (hok : f + mn ≤ 2048) : MI l yX3_feed cX3_feed 6 .boolean rmMf D ca noX [.ref (g 0), .int wh, .int nn] (wMd ca g (nI n0) (nI f) kd sh (nI 1) ln tx ft wd t cc an al) (S := Unit) (fun v _ => v = nI 1) (fun _ => wMd ca g (nI n0) (nI (f + mn)) kd sh (nI 1) ln tx (rng f mn (fun q => (tx (fr + (q - f))).toInt8.toInt32) ft) wd t cc an al) 0 0 := by
  refine MI.of (by decide) (Nat.le_of_ble_eq_true rfl) ?_
  intro p en s m below meth c A hx hb hr hml hlk hown hts hnm hA hP hK hD hS hX ls hl
  have hown : s.vm.findClass RX3 = some m.cls := hown
  have hl : lv_has ls 6 [(0, .ref (g 0)), (1, .int wh), (2, .int nn)] := hl
  have F1 : Fix p m c cX3_feed 6 s _ RX3 A D ca := ⟨hx, hb, hml, hown, hts, hA, hK⟩
  have hfl : fr < n0 + 1 := by rw [hfr]; exact Nat.mod_lt _ (by omega)
  have hml2 : mn < n0 - fr + 1 := by rw [hmn]; exact Nat.mod_lt _ (by omega)
  refine lv_aload_n hx hb dX3_feed_0 rfl (lv_at hl 0 rfl) ?_
  refine lv_iload_n hx hb dX3_feed_1 rfl (lv_at hl 1 rfl) ?_
  refine cVi (wr := []) (As := [.int wh]) (rest := []) ⟨hx, hb, hml, hown, hts⟩ (m_first l D ca g (nI f) kd sh (nI 1) ln tx ft wd t cc an al n0 hn0 wh) (cwV 1 hts (lw_V q253 q255 qs6 q15 q256) rfl rfl rfl (by decide +kernel) ⟨Nat.le_of_ble_eq_true rfl, Nat.le_of_ble_eq_true rfl⟩) hK hP hD hS hA [0, 1, 2, 3, 4, 5, 6, 7] [] rfl rfl (by decide) (by decide) (by decide) 0 3 rfl rfl rfl (fun _ _ _ _ _ _ => trivial) (fun _ _ _ => trivial) rfl hl.1 rfl (Nat.le_of_ble_eq_true rfl) dX3_feed_2 ⟨Nat.le_of_ble_eq_true rfl, Nat.le_of_ble_eq_true rfl⟩ (fun v1 _ H locs hpo hP hD hS => ?_)
  have hP : va_P D vwCl (wMd ca g (nI n0) (nI f) kd sh (nI 1) ln tx ft wd t cc an al) H := hP
  have hD : va_D A (wMd ca g (nI n0) (nI f) kd sh (nI 1) ln tx ft wd t cc an al) := hD
  have hpo : v1 = nI (cut wh % (n0 + 1)) := hpo
  refine tpi (y := nI fr) (hpo.trans (congrArg nI hfr.symm)) ?_
  refine lv_istore_n (lv' := [(3, .int (nI fr)), (0, .ref (g 0)), (1, .int wh), (2, .int nn)]) hx hb dX3_feed_5 rfl hl (by decide) rfl (fun ls hl => ?_)
  refine lv_aload_n hx hb dX3_feed_6 rfl (lv_at hl 1 rfl) ?_
  refine lv_iload_n hx hb dX3_feed_7 rfl (lv_at hl 0 rfl) ?_
  refine lv_iload_n hx hb dX3_feed_8 rfl (lv_at hl 3 rfl) ?_
  refine cVi (wr := []) (As := [.int (nI fr), .int nn]) (rest := []) ⟨hx, hb, hml, hown, hts⟩ (m_many l D ca g (nI f) kd sh (nI 1) ln tx ft wd t cc an al n0 fr hn0 (by omega) nn) (cwV 2 hts (lw_V q270 q272 qs7 q15 q273) rfl rfl rfl (by decide +kernel) ⟨Nat.le_of_ble_eq_true rfl, Nat.le_of_ble_eq_true rfl⟩) hK hP hD hS hA [0, 1, 2, 3, 4, 5, 6, 7] [] rfl rfl (by decide) (by decide) (by decide) 0 3 rfl rfl rfl (fun _ _ _ _ _ _ => trivial) (fun _ _ _ => trivial) rfl hl.1 rfl (Nat.le_of_ble_eq_true rfl) dX3_feed_9 ⟨Nat.le_of_ble_eq_true rfl, Nat.le_of_ble_eq_true rfl⟩ (fun v2 _ H locs hpo hP hD hS => ?_)
  have hP : va_P D vwCl (wMd ca g (nI n0) (nI f) kd sh (nI 1) ln tx ft wd t cc an al) H := hP
  have hD : va_D A (wMd ca g (nI n0) (nI f) kd sh (nI 1) ln tx ft wd t cc an al) := hD
  have hpo : v2 = nI (cut nn % (n0 - fr + 1)) := hpo
  refine tpi (y := nI mn) (hpo.trans (congrArg nI hmn.symm)) ?_
  refine lv_istore (lv' := [(4, .int (nI mn)), (3, .int (nI fr)), (0, .ref (g 0)), (1, .int wh), (2, .int nn)]) hx hb dX3_feed_12 hl (by decide) rfl (fun ls hl => ?_)
  refine lv_aload_n hx hb dX3_feed_14 rfl (lv_at hl 2 rfl) ?_
  refine va_get (D := D) (ci := 3) (v := .int (nI 1)) (C := RX3) (T := TX3) (N := 13) hx hb hts in_X3 hown hK hP 0 rfl rfl 6 (by decide) (hts _ q210) (fun _ h9 => h9) rfl dX3_feed_15 ?_
  refine n_ifeq (tgt := 34) hx hb (by omega) dX3_feed_18 (by decide) (fun hc => ?_) (fun hc => ?_)
  ·
    exact absurd hc (by decide)
  ·
    refine lv_aload_n hx hb dX3_feed_21 rfl (lv_at hl 2 rfl) ?_
    refine va_get (D := D) (ci := 3) (v := .int (nI f)) (C := RX3) (T := TX3) (N := 13) hx hb hts in_X3 hown hK hP 0 rfl rfl 3 (by decide) (hts _ q207) (fun _ h9 => h9) rfl dX3_feed_22 ?_
    refine lv_iload hx hb dX3_feed_25 (lv_at hl 0 rfl) ?_
    refine n_add hx hb dX3_feed_27 ?_
    refine lv_sipush (v := nI 2048) hx hb dX3_feed_28 (by decide) ?_
    refine n_le (tgt := 36) hx hb (by omega) (by omega) dX3_feed_31 (by decide) (fun hc2 => ?_) (fun hc2 => ?_)
    ·
      refine lv_iconst (v := nI 0) hx hb dX3_feed_36 (by decide) ?_
      refine lv_istore (lv' := [(5, .int (nI 0)), (4, .int (nI mn)), (3, .int (nI fr)), (0, .ref (g 0)), (1, .int wh), (2, .int nn)]) hx hb dX3_feed_37 hl (by decide) rfl (fun ls hl => ?_)
      have hP : va_P D vwCl (wMd ca g (nI n0) (nI f) kd sh (nI 1) ln tx (rng f 0 (fun q => (tx (fr + (q - f))).toInt8.toInt32) ft) wd t cc an al) H := by rw [rng_0]; exact hP
      have hD : va_D A (wMd ca g (nI n0) (nI f) kd sh (nI 1) ln tx (rng f 0 (fun q => (tx (fr + (q - f))).toInt8.toInt32) ft) wd t cc an al) := by rw [rng_0]; exact hD
      refine mfe_lp kd sh ln tx ft wd t cc an al n0 f fr mn hn0 (by omega) hok F1 (fun H locs ls hst hl => ?_) (mn + 1) 0 (by omega) (by omega) _ _ ls ⟨hP, hD, hS⟩ (lv_sub hl [0, 1, 2, 3] rfl)
      obtain ⟨hP, hD, hS⟩ := hst
      refine lv_aload_n hx hb dX3_feed_73 rfl (lv_at hl 3 rfl) ?_
      refine lv_aload_n hx hb dX3_feed_74 rfl (lv_at hl 3 rfl) ?_
      refine va_get (D := D) (ci := 3) (v := .int (nI f)) (C := RX3) (T := TX3) (N := 13) hx hb hts in_X3 hown hK hP 0 rfl rfl 3 (by decide) (hts _ q207) (fun _ h9 => h9) rfl dX3_feed_75 ?_
      refine lv_iload hx hb dX3_feed_78 (lv_at hl 1 rfl) ?_
      refine n_add hx hb dX3_feed_80 ?_
      refine va_put (D := D) (ci := 3) (v := .int (nI (f + mn))) (ty := .int) (C := RX3) (T := TX3) (N := 13) hx hb hts in_X3 tyX3 tyX3_ok nmX3 hown hK hP hD hS 0 rfl rfl 3 (by decide) (hts _ q207) (fun _ h9 => h9) rfl (by decide +kernel) rfl rfl (Nat.le_of_ble_eq_true rfl) dX3_feed_81 (fun H locs hP hD hS => ?_)
      have hP : va_P D vwCl (wMd ca g (nI n0) (nI (f + mn)) kd sh (nI 1) ln tx (rng f mn (fun q => (tx (fr + (q - f))).toInt8.toInt32) ft) wd t cc an al) H := hP
      have hD : va_D A (wMd ca g (nI n0) (nI (f + mn)) kd sh (nI 1) ln tx (rng f mn (fun q => (tx (fr + (q - f))).toInt8.toInt32) ft) wd t cc an al) := hD
      refine lv_iconst (v := nI 1) hx hb dX3_feed_84 (by decide) ?_
      exact zend hx hb hr rfl hlk () rfl hP hK hD hS (Nat.le_refl _) (Nat.le_refl _) dX3_feed_85
    ·
      omega
set_option maxHeartbeats 1000000 in
set_option maxRecDepth 100000 in
theorem m_manswer (l : Launch) (D : va_G) (ca : Nat → ClassId) (g : Nat → Nat) (sz fd kd sh op : Int32) (tx ft : Nat → Int32) (wd t cc : Nat → Int64) (an al : Nat → Int32) (k0 : Nat) (hk0 : k0 ≤ 255) (x : Int32) : MI l yX3_answer cX3_answer 2 .int rmz D ca noX [.ref (g 0), .int x] (wMd ca g sz fd kd sh op (nI k0) tx ft wd t cc an al) (S := Unit) (fun v _ => v = if k0 = 0 then -1 else an (cut x % k0)) (fun _ => wMd ca g sz fd kd sh op (nI k0) tx ft wd t cc an al) 0 0 := by
  refine MI.of (by decide) (Nat.le_of_ble_eq_true rfl) ?_
  intro p en s m below meth c A hx hb hr hml hlk hown hts hnm hA hP hK hD hS hX ls hl
  have hown : s.vm.findClass RX3 = some m.cls := hown
  have hl : lv_has ls 2 [(0, .ref (g 0)), (1, .int x)] := hl
  refine lv_aload_n hx hb dX3_answer_0 rfl (lv_at hl 0 rfl) ?_
  refine va_get (D := D) (ci := 3) (v := .int (nI k0)) (C := RX3) (T := TX3) (N := 13) hx hb hts in_X3 hown hK hP 0 rfl rfl 11 (by decide) (hts _ q215) (fun _ h9 => h9) rfl dX3_answer_1 ?_
  refine n_ifne (tgt := 11) hx hb (by omega) dX3_answer_4 (by decide) (fun hc => ?_) (fun hc => ?_)
  ·
    have hlt : cut x % k0 < k0 := Nat.mod_lt _ (by omega)
    refine lv_aload_n hx hb dX3_answer_11 rfl (lv_at hl 0 rfl) ?_
    refine va_get (D := D) (ci := 3) (v := .ref (g 6)) (C := RX3) (T := TX3) (N := 13) hx hb hts in_X3 hown hK hP 0 rfl rfl 10 (by decide) (hts _ q214) (fun _ h9 => h9) rfl dX3_answer_12 ?_
    refine lv_iload_n hx hb dX3_answer_15 rfl (lv_at hl 1 rfl) ?_
    refine lv_ldc hx hb hown (hts _ q257) dX3_answer_16 ?_
    refine lv_iand hx hb dX3_answer_18 ?_
    refine tpi (y := nI (cut x)) ((cut_eq x).1) ?_
    refine lv_aload_n hx hb dX3_answer_19 rfl (lv_at hl 0 rfl) ?_
    refine va_get (D := D) (ci := 3) (v := .int (nI k0)) (C := RX3) (T := TX3) (N := 13) hx hb hts in_X3 hown hK hP 0 rfl rfl 11 (by decide) (hts _ q215) (fun _ h9 => h9) rfl dX3_answer_20 ?_
    refine n_rem hx hb ((cut_eq x).2) (by omega) (by omega) dX3_answer_23 ?_
    refine n_iald (v := an ((cut x) % k0)) hx hb hK hP 6 0 rfl rfl (by omega) (by decide) (rfl) dX3_answer_24 ?_
    exact iend hx hb hr hlk () (if_neg hc).symm hP hK hD hS (Nat.le_refl _) (Nat.le_refl _) dX3_answer_25
  ·
    refine lv_iconst (v := -1) hx hb dX3_answer_7 (by decide) ?_
    refine lv_goto (tgt := 25) hx hb dX3_answer_8 (by decide) ?_
    exact iend hx hb hr hlk () (if_pos hc).symm hP hK hD hS (Nat.le_refl _) (Nat.le_refl _) dX3_answer_25
end
section
/-! the reference: what 'show' lays out -/
theorem updL_x (f : Nat → Int64) (k : Nat) (x : Int64) (q : Nat) : vp_updL f k (f k ^^^ x) q = if q = k then f q ^^^ x else f q := by
  show (if q = k then f k ^^^ x else f q) = _
  by_cases h : q = k
  · rw [if_pos h, if_pos h, h]
  · rw [if_neg h, if_neg h]
def al1 (ft : Nat → Int32) (f : Nat) (q : Nat) : Int32 := if q < f then (ft q).toInt8.toInt32 else (nI 0).toInt8.toInt32
def al2 (a : Nat → Int32) (f mk : Nat) : Nat → Int32 := upd a f (nI mk).toInt8.toInt32.toInt8.toInt32
def al3 (a : Nat → Int32) (E : Nat) : Nat → Int32 := upd a (E - 1) (a (E - 1) ^^^ nI 128).toInt8.toInt32.toInt8.toInt32
theorem bb_255 (x : Int32) : x.toInt8.toInt32.toInt8.toInt32 &&& nI 255 = x &&& nI 255 := (bp_b _).trans (bp_b x)
theorem xor_255 (x : Int32) : (x ^^^ nI 128) &&& nI 255 = (x &&& nI 255) ^^^ nI 128 := by
  apply b_ext
  intro j hj
  have f255 : ∀ k, bt (nI 255) k = decide (k < 8) := b_255
  rw [b_and, b_xor, b_xor, b_and, f255]
  have h : ∀ j, j < 32 → bt (nI 128) j = (bt (nI 128) j && decide (j < 8)) := by decide +kernel
  rw [h j hj]
  cases bt x j <;> cases bt (nI 128) j <;> cases decide (j < 8) <;> rfl
theorem show_pad {r f mk E : Nat} (hr : 0 < r) (hm : mk = 6 ∨ mk = 31) (hE : E = (f / r + 1) * r) (ft a0 : Nat → Int32) : absL r (al3 (al2 (mid id E (al1 ft f) a0) f mk) E) E = finL r (absL r ft f) (f % r) (nI mk) := by
  have hlt : f % r < r := Nat.mod_lt _ hr
  have hdm : f / r * r + f % r = f := by rw [Nat.mul_comm]; exact Nat.div_add_mod f r
  have hE2 : E = f / r * r + r := by rw [hE, Nat.add_mul, Nat.one_mul]
  have hfE : f < E := by omega
  have e2 : ∀ q, q < E → al2 (mid id E (al1 ft f) a0) f mk q = if q = f then (nI mk).toInt8.toInt32.toInt8.toInt32 else al1 ft f q := by
    intro q hq
    show (if q = f then _ else if id q < E then al1 ft f q else a0 q) = _
    rw [if_pos (show id q < E from hq)]
  have e3 : ∀ q, q < E → q ≠ E - 1 → al3 (al2 (mid id E (al1 ft f) a0) f mk) E q = if q = f then (nI mk).toInt8.toInt32.toInt8.toInt32 else al1 ft f q := by
    intro q hq hne
    show (if q = E - 1 then _ else al2 (mid id E (al1 ft f) a0) f mk q) = _
    rw [if_neg hne, e2 q hq]
  have e4 : al3 (al2 (mid id E (al1 ft f) a0) f mk) E (E - 1) = ((if E - 1 = f then (nI mk).toInt8.toInt32.toInt8.toInt32 else al1 ft f (E - 1)) ^^^ nI 128).toInt8.toInt32.toInt8.toInt32 := by
    show (if E - 1 = E - 1 then _ else _) = _
    rw [if_pos rfl, e2 (E - 1) (by omega)]
  have hmk : nI mk &&& nI 255 = nI mk ∧ (nI mk ^^^ nI 128) &&& nI 255 = nI (mk + 128) := by
    rcases hm with q | q <;> (subst q; decide +kernel)
  have key := pad_law (r := r) (f := f) (mk := mk) hr hm ft (al3 (al2 (mid id E (al1 ft f) a0) f mk) E) ?_ ?_ ?_
  · rw [← hE] at key
    exact key
  · intro q hq
    rw [e3 q (by omega) (by omega), if_neg (by omega)]
    unfold al1
    rw [if_pos hq]
    exact bp_b _
  · intro h
    rw [← hE]
    refine ⟨?_, ?_, ?_⟩
    · rw [e3 f hfE (by omega), if_pos rfl, bb_255, hmk.1]
    · intro q h1 h2
      rw [e3 q (by omega) (by omega), if_neg (by omega)]
      unfold al1
      rw [if_neg (by omega)]
      decide
    · rw [e4, if_neg (by omega), bb_255]
      unfold al1
      rw [if_neg (by omega)]
      decide
  · intro h
    have hf1 : E - 1 = f := by omega
    have e5 := e4
    rw [if_pos hf1, hf1] at e5
    rw [e5, bb_255, xor_255, bb_255, ← xor_255, hmk.2]
end
section
/-! the reference: show, close, its constructor -/
abbrev rmSh : Room := { frames := 2, cells := 0, slots := 0, locals := 48 }
abbrev rmMc : Room := { frames := 3, cells := 0, slots := 0, locals := 74 }
section MSH
variable {p : Program} {l : Launch} {en : Env} {s : State} {m : MethodId} {args : Array Value} {below : List Frame} {meth : Method} {c : Code} {Q : State → Prop} {D : va_G} {ca : Nat → ClassId} {A : Nat → Prop} {g : Nat → Nat}
set_option maxHeartbeats 1000000 in
set_option maxRecDepth 100000 in
theorem shA (sz sh op ln : Int32) (tx ft : Nat → Int32) (wd t cc : Nat → Int64) (an al : Nat → Int32) (f kk r E fm wn : Nat) (hf : f ≤ 2048) (hE : E ≤ 2304) (F : Fix p m c cX3_show 7 s args RX3 A D ca)
    (K : ∀ (H : Heap) (locs : List Loc) (ls : Array Slot), Sta D A s (wMd ca g sz (nI f) (nI kk) sh op ln tx ft wd t cc an (mid id E (al1 ft f) al)) H locs → lv_has ls 7 [(5, .int (nI E)), (4, .int (nI E)), (3, .int (nI r)), (0, .ref (g 0)), (1, .int (nI fm)), (2, .int (nI wn))] → W p l en rmSh s m args below meth c H locs 0 0 Q (F0 m 60 ls [])) :
    ∀ (n k : Nat), k ≤ E → E + 1 ≤ k + n → ∀ (H : Heap) (locs : List Loc) (ls : Array Slot), Sta D A s (wMd ca g sz (nI f) (nI kk) sh op ln tx ft wd t cc an (mid id k (al1 ft f) al)) H locs → lv_has ls 7 [(5, .int (nI k)), (4, .int (nI E)), (3, .int (nI r)), (0, .ref (g 0)), (1, .int (nI fm)), (2, .int (nI wn))] → W p l en rmSh s m args below meth c H locs 0 0 Q (F0 m 20 ls []) := by
  obtain ⟨hx, hb, hml, hown, hts, hA, hK⟩ := F
  intro n
  induction n with
  | zero => intro k h1 h2; omega
  | succ n ih =>
    intro k hi hn H locs ls hst hl
    obtain ⟨hP, hD, hS⟩ := hst
    refine lv_iload hx hb dX3_show_20 (lv_at hl 0 rfl) ?_
    refine lv_iload hx hb dX3_show_22 (lv_at hl 1 rfl) ?_
    refine n_ge (tgt := 60) hx hb (by omega) (by omega) dX3_show_24 (by decide) (fun hc => ?_) (fun hc => ?_)
    ·
      have e5 : k = E := by omega
      subst e5
      exact K H locs ls ⟨hP, hD, hS⟩ hl
    ·
      refine lv_aload_n hx hb dX3_show_27 rfl (lv_at hl 3 rfl) ?_
      refine va_get (D := D) (ci := 3) (v := .ref (g 7)) (C := RX3) (T := TX3) (N := 13) hx hb hts in_X3 hown hK hP 0 rfl rfl 12 (by decide) (hts _ q216) (fun _ h9 => h9) rfl dX3_show_28 ?_
      refine lv_iload hx hb dX3_show_31 (lv_at hl 0 rfl) ?_
      refine lv_iload hx hb dX3_show_33 (lv_at hl 0 rfl) ?_
      refine lv_aload_n hx hb dX3_show_35 rfl (lv_at hl 3 rfl) ?_
      refine va_get (D := D) (ci := 3) (v := .int (nI f)) (C := RX3) (T := TX3) (N := 13) hx hb hts in_X3 hown hK hP 0 rfl rfl 3 (by decide) (hts _ q207) (fun _ h9 => h9) rfl dX3_show_36 ?_
      refine n_ge (tgt := 52) hx hb (by omega) (by omega) dX3_show_39 (by decide) (fun hlt => ?_) (fun hlt => ?_)
      ·
        refine lv_iconst (v := nI 0) hx hb dX3_show_52 (by decide) ?_
        refine n_bast (ws' := wMd ca g sz (nI f) (nI kk) sh op ln tx ft wd t cc an (mid id (k + 1) (al1 ft f) al)) hx hb hK hP hD hS 7 1 (mid id (k + 1) (al1 ft f) al) rfl rfl (by omega) (by decide) (mid_up (fun _ _ => Iff.rfl) (by unfold al1; rw [if_neg (by omega)])) rfl dX3_show_53 (fun H locs hP hD hS => ?_)
        refine lv_iinc (v := nI (k + 1)) (lv' := [(5, .int (nI (k + 1))), (4, .int (nI E)), (3, .int (nI r)), (0, .ref (g 0)), (1, .int (nI fm)), (2, .int (nI wn))]) hx hb dX3_show_54 hl (k := 0) rfl (nI_add _ 1) (by decide) rfl (fun ls hl => ?_)
        refine lv_goto (tgt := 20) hx hb dX3_show_57 (by decide) ?_
        exact ih (k + 1) (by omega) (by omega) H locs ls ⟨hP, hD, hS⟩ (lv_sub hl [0, 1, 2, 3, 4, 5] rfl)
      ·
        refine lv_aload_n hx hb dX3_show_42 rfl (lv_at hl 3 rfl) ?_
        refine va_get (D := D) (ci := 3) (v := .ref (g 2)) (C := RX3) (T := TX3) (N := 13) hx hb hts in_X3 hown hK hP 0 rfl rfl 2 (by decide) (hts _ q206) (fun _ h9 => h9) rfl dX3_show_43 ?_
        refine lv_iload hx hb dX3_show_46 (lv_at hl 0 rfl) ?_
        refine n_bald (v := ft k) hx hb hK hP 2 1 rfl rfl (by omega) (by decide) (rfl) dX3_show_48 ?_
        refine lv_goto (tgt := 53) hx hb dX3_show_49 (by decide) ?_
        refine n_bast (ws' := wMd ca g sz (nI f) (nI kk) sh op ln tx ft wd t cc an (mid id (k + 1) (al1 ft f) al)) hx hb hK hP hD hS 7 1 (mid id (k + 1) (al1 ft f) al) rfl rfl (by omega) (by decide) (mid_up (fun _ _ => Iff.rfl) (by unfold al1; rw [if_pos hlt])) rfl dX3_show_53 (fun H locs hP hD hS => ?_)
        refine lv_iinc (v := nI (k + 1)) (lv' := [(5, .int (nI (k + 1))), (4, .int (nI E)), (3, .int (nI r)), (0, .ref (g 0)), (1, .int (nI fm)), (2, .int (nI wn))]) hx hb dX3_show_54 hl (k := 0) rfl (nI_add _ 1) (by decide) rfl (fun ls hl => ?_)
        refine lv_goto (tgt := 20) hx hb dX3_show_57 (by decide) ?_
        exact ih (k + 1) (by omega) (by omega) H locs ls ⟨hP, hD, hS⟩ (lv_sub hl [0, 1, 2, 3, 4, 5] rfl)
set_option maxHeartbeats 1000000 in
set_option maxRecDepth 100000 in
theorem shW (sz sh op ln : Int32) (tx ft : Nat → Int32) (wd t cc : Nat → Int64) (an al : Nat → Int32) (f kk r E fm wn : Nat) (F : Fix p m c cX3_show 7 s args RX3 A D ca)
    (K : ∀ (H : Heap) (locs : List Loc) (ls : Array Slot), Sta D A s (wMd ca g sz (nI f) (nI kk) sh op ln tx ft (mid id 25 (fun _ => 0) wd) t cc an al) H locs → lv_has ls 7 [(5, .int (nI 25)), (4, .int (nI E)), (3, .int (nI r)), (0, .ref (g 0)), (1, .int (nI fm)), (2, .int (nI wn))] → W p l en rmSh s m args below meth c H locs 0 0 Q (F0 m 132 ls [])) :
    ∀ (n k : Nat), k ≤ 25 → 25 + 1 ≤ k + n → ∀ (H : Heap) (locs : List Loc) (ls : Array Slot), Sta D A s (wMd ca g sz (nI f) (nI kk) sh op ln tx ft (mid id k (fun _ => 0) wd) t cc an al) H locs → lv_has ls 7 [(5, .int (nI k)), (4, .int (nI E)), (3, .int (nI r)), (0, .ref (g 0)), (1, .int (nI fm)), (2, .int (nI wn))] → W p l en rmSh s m args below meth c H locs 0 0 Q (F0 m 111 ls []) := by
  obtain ⟨hx, hb, hml, hown, hts, hA, hK⟩ := F
  intro n
  induction n with
  | zero => intro k h1 h2; omega
  | succ n ih =>
    intro k hi hn H locs ls hst hl
    obtain ⟨hP, hD, hS⟩ := hst
    refine lv_iload hx hb dX3_show_111 (lv_at hl 0 rfl) ?_
    refine lv_bipush (v := nI 25) hx hb dX3_show_113 (by decide) ?_
    refine n_ge (tgt := 132) hx hb (by omega) (by omega) dX3_show_115 (by decide) (fun hc => ?_) (fun hc => ?_)
    ·
      have e5 : k = 25 := by omega
      subst e5
      exact K H locs ls ⟨hP, hD, hS⟩ hl
    ·
      refine lv_aload_n hx hb dX3_show_118 rfl (lv_at hl 3 rfl) ?_
      refine va_get (D := D) (ci := 3) (v := .ref (g 3)) (C := RX3) (T := TX3) (N := 13) hx hb hts in_X3 hown hK hP 0 rfl rfl 7 (by decide) (hts _ q211) (fun _ h9 => h9) rfl dX3_show_119 ?_
      refine lv_iload hx hb dX3_show_122 (lv_at hl 0 rfl) ?_
      refine lv_lconst (v := 0) hx hb dX3_show_124 (by decide) ?_
      refine n_last (ws' := wMd ca g sz (nI f) (nI kk) sh op ln tx ft (mid id (k + 1) (fun _ => 0) wd) t cc an al) hx hb hK hP hD hS 3 2 (mid id (k + 1) (fun _ => 0) wd) rfl rfl (by omega) (by decide) (mid_upL (fun _ _ => Iff.rfl) rfl) rfl dX3_show_125 (fun H locs hP hD hS => ?_)
      refine lv_iinc (v := nI (k + 1)) (lv' := [(5, .int (nI (k + 1))), (4, .int (nI E)), (3, .int (nI r)), (0, .ref (g 0)), (1, .int (nI fm)), (2, .int (nI wn))]) hx hb dX3_show_126 hl (k := 0) rfl (nI_add _ 1) (by decide) rfl (fun ls hl => ?_)
      refine lv_goto (tgt := 111) hx hb dX3_show_129 (by decide) ?_
      exact ih (k + 1) (by omega) (by omega) H locs ls ⟨hP, hD, hS⟩ hl
set_option maxHeartbeats 1000000 in
set_option maxRecDepth 100000 in
theorem shB1 (sz sh op ln : Int32) (tx ft : Nat → Int32) (v t cc : Nat → Int64) (an al : Nat → Int32) (f kk r E fm wn : Nat) (b : Nat) (hr0 : r < 200) (hbr : b + r ≤ 2304) (F : Fix p m c cX3_show 7 s args RX3 A D ca)
    (K : ∀ (H : Heap) (locs : List Loc) (ls : Array Slot), Sta D A s (wMd ca g sz (nI f) (nI kk) sh op ln tx ft (blk v al b r) t cc an al) H locs → lv_has ls 7 [(6, .int (nI r)), (5, .int (nI b)), (4, .int (nI E)), (3, .int (nI r)), (0, .ref (g 0)), (1, .int (nI fm)), (2, .int (nI wn))] → W p l en rmSh s m args below meth c H locs 0 0 Q (F0 m 202 ls [])) :
    ∀ (n k : Nat), k ≤ r → r + 1 ≤ k + n → ∀ (H : Heap) (locs : List Loc) (ls : Array Slot), Sta D A s (wMd ca g sz (nI f) (nI kk) sh op ln tx ft (blk v al b k) t cc an al) H locs → lv_has ls 7 [(6, .int (nI k)), (5, .int (nI b)), (4, .int (nI E)), (3, .int (nI r)), (0, .ref (g 0)), (1, .int (nI fm)), (2, .int (nI wn))] → W p l en rmSh s m args below meth c H locs 0 0 Q (F0 m 145 ls []) := by
  obtain ⟨hx, hb, hml, hown, hts, hA, hK⟩ := F
  intro n
  induction n with
  | zero => intro k h1 h2; omega
  | succ n ih =>
    intro k hi hn H locs ls hst hl
    obtain ⟨hP, hD, hS⟩ := hst
    refine lv_iload hx hb dX3_show_145 (lv_at hl 0 rfl) ?_
    refine lv_iload_n hx hb dX3_show_147 rfl (lv_at hl 3 rfl) ?_
    refine n_ge (tgt := 202) hx hb (by omega) (by omega) dX3_show_148 (by decide) (fun hc => ?_) (fun hc => ?_)
    ·
      have e5 : k = r := by omega
      subst e5
      exact K H locs ls ⟨hP, hD, hS⟩ hl
    ·
      refine lv_aload_n hx hb dX3_show_151 rfl (lv_at hl 4 rfl) ?_
      refine va_get (D := D) (ci := 3) (v := .ref (g 3)) (C := RX3) (T := TX3) (N := 13) hx hb hts in_X3 hown hK hP 0 rfl rfl 7 (by decide) (hts _ q211) (fun _ h9 => h9) rfl dX3_show_152 ?_
      refine lv_iload hx hb dX3_show_155 (lv_at hl 0 rfl) ?_
      refine lv_bipush (v := nI 8) hx hb dX3_show_157 (by decide) ?_
      refine n_div hx hb (by omega) (by omega) (by omega) dX3_show_159 ?_
      refine lv_aload_n hx hb dX3_show_160 rfl (lv_at hl 4 rfl) ?_
      refine va_get (D := D) (ci := 3) (v := .ref (g 3)) (C := RX3) (T := TX3) (N := 13) hx hb hts in_X3 hown hK hP 0 rfl rfl 7 (by decide) (hts _ q211) (fun _ h9 => h9) rfl dX3_show_161 ?_
      refine lv_iload hx hb dX3_show_164 (lv_at hl 0 rfl) ?_
      refine lv_bipush (v := nI 8) hx hb dX3_show_166 (by decide) ?_
      refine n_div hx hb (by omega) (by omega) (by omega) dX3_show_168 ?_
      refine n_lald (v := (blk v al b k) (k / 8)) hx hb hK hP 3 2 rfl rfl (by omega) (by decide) (rfl) dX3_show_169 ?_
      refine lv_aload_n hx hb dX3_show_170 rfl (lv_at hl 4 rfl) ?_
      refine va_get (D := D) (ci := 3) (v := .ref (g 7)) (C := RX3) (T := TX3) (N := 13) hx hb hts in_X3 hown hK hP 0 rfl rfl 12 (by decide) (hts _ q216) (fun _ h9 => h9) rfl dX3_show_171 ?_
      refine lv_iload hx hb dX3_show_174 (lv_at hl 1 rfl) ?_
      refine lv_iload hx hb dX3_show_176 (lv_at hl 0 rfl) ?_
      refine n_add hx hb dX3_show_178 ?_
      refine n_bald (v := al (b + k)) hx hb hK hP 7 1 rfl rfl (by omega) (by decide) (rfl) dX3_show_179 ?_
      refine lv_sipush (v := nI 255) hx hb dX3_show_180 (by decide) ?_
      refine lv_iand hx hb dX3_show_183 ?_
      refine lv_i2l hx hb dX3_show_184 rfl ?_
      refine lv_bipush (v := nI 8) hx hb dX3_show_185 (by decide) ?_
      refine lv_iload hx hb dX3_show_187 (lv_at hl 0 rfl) ?_
      refine lv_bipush (v := nI 8) hx hb dX3_show_189 (by decide) ?_
      refine n_rem hx hb (by omega) (by omega) (by omega) dX3_show_191 ?_
      refine n_mul hx hb dX3_show_192 ?_
      refine lv_lshl hx hb dX3_show_193 rfl ?_
      refine lv_lxor hx hb dX3_show_194 ?_
      refine n_last (ws' := wMd ca g sz (nI f) (nI kk) sh op ln tx ft (blk v al b (k + 1)) t cc an al) hx hb hK hP hD hS 3 2 (blk v al b (k + 1)) rfl rfl (by omega) (by decide) (fun q _ => updL_x _ _ _ q) rfl dX3_show_195 (fun H locs hP hD hS => ?_)
      refine lv_iinc (v := nI (k + 1)) (lv' := [(6, .int (nI (k + 1))), (5, .int (nI b)), (4, .int (nI E)), (3, .int (nI r)), (0, .ref (g 0)), (1, .int (nI fm)), (2, .int (nI wn))]) hx hb dX3_show_196 hl (k := 0) rfl (nI_add _ 1) (by decide) rfl (fun ls hl => ?_)
      refine lv_goto (tgt := 145) hx hb dX3_show_199 (by decide) ?_
      exact ih (k + 1) (by omega) (by omega) H locs ls ⟨hP, hD, hS⟩ hl
set_option maxHeartbeats 1000000 in
set_option maxRecDepth 100000 in
theorem shB (sz sh op ln : Int32) (tx ft : Nat → Int32) (an al : Nat → Int32) (f kk r E fm wn : Nat) (J : Nat) (hr1 : 0 < r) (hr0 : r < 200) (hEJ : E = r * J) (hE : E ≤ 2304) (F : Fix p m c cX3_show 7 s args RX3 A D ca)
    (K : ∀ (t cc : Nat → Int64) (H : Heap) (locs : List Loc) (ls : Array Slot), Sta D A s (wMd ca g sz (nI f) (nI kk) sh op ln tx ft (absL r al (r * J)) t cc an al) H locs → lv_has ls 7 [(5, .int (nI (r * J))), (4, .int (nI E)), (3, .int (nI r)), (0, .ref (g 0)), (1, .int (nI fm)), (2, .int (nI wn))] → W p l en rmSh s m args below meth c H locs 0 0 Q (F0 m 215 ls [])) :
    ∀ (n j : Nat), j ≤ J → J + 1 ≤ j + n → ∀ (t cc : Nat → Int64) (H : Heap) (locs : List Loc) (ls : Array Slot), Sta D A s (wMd ca g sz (nI f) (nI kk) sh op ln tx ft (absL r al (r * j)) t cc an al) H locs → lv_has ls 7 [(5, .int (nI (r * j))), (4, .int (nI E)), (3, .int (nI r)), (0, .ref (g 0)), (1, .int (nI fm)), (2, .int (nI wn))] → W p l en rmSh s m args below meth c H locs 0 0 Q (F0 m 135 ls []) := by
  have F1 := F
  obtain ⟨hx, hb, hml, hown, hts, hA, hK⟩ := F
  intro n
  induction n with
  | zero => intro j h1 h2; omega
  | succ n ih =>
    intro j hi hn t cc H locs ls hst hl
    obtain ⟨hP, hD, hS⟩ := hst
    have hjE : r * j ≤ E := by rw [hEJ]; exact Nat.mul_le_mul_left r hi
    refine lv_iload hx hb dX3_show_135 (lv_at hl 0 rfl) ?_
    refine lv_iload hx hb dX3_show_137 (lv_at hl 1 rfl) ?_
    refine n_ge (tgt := 215) hx hb (by omega) (by omega) dX3_show_139 (by decide) (fun hc => ?_) (fun hc => ?_)
    ·
      have e5 : j = J := by
        have h9 : r * J ≤ r * j := by rw [← hEJ]; exact hc
        have := Nat.le_of_mul_le_mul_left h9 hr1
        omega
      subst e5
      exact K t cc H locs ls ⟨hP, hD, hS⟩ hl
    ·
      have hj : j < J := by rw [hEJ] at hc; exact Nat.lt_of_mul_lt_mul_left hc
      have hbr : r * j + r ≤ E := by rw [hEJ, ← Nat.mul_succ]; exact Nat.mul_le_mul_left r hj
      refine lv_iconst (v := nI 0) hx hb dX3_show_142 (by decide) ?_
      refine lv_istore (lv' := [(6, .int (nI 0)), (5, .int (nI (r * j))), (4, .int (nI E)), (3, .int (nI r)), (0, .ref (g 0)), (1, .int (nI fm)), (2, .int (nI wn))]) hx hb dX3_show_143 hl (by decide) rfl (fun ls hl => ?_)
      refine shB1 sz sh op ln tx ft (absL r al (r * j)) t cc an al f kk r E fm wn (r * j) hr0 (by omega) F1 (fun H locs ls hst hl => ?_) (r + 1) 0 (by omega) (by omega) H locs ls ⟨hP, hD, hS⟩ hl
      obtain ⟨hP, hD, hS⟩ := hst
      refine lv_aload_n hx hb dX3_show_202 rfl (lv_at hl 4 rfl) ?_
      refine cVv (wr := []) (As := []) (rest := []) ⟨hx, hb, hml, hown, hts⟩ (m_mmix l D ca g sz (nI f) (nI kk) sh op ln tx ft (blk (absL r al (r * j)) al (r * j) r) t cc an al) (cwV 0 hts (lw_V q286 q288 qs10 q15 q289) rfl rfl rfl (by decide +kernel) ⟨Nat.le_of_ble_eq_true rfl, Nat.le_of_ble_eq_true rfl⟩) hK hP hD hS hA [0, 1, 2, 3, 4, 5, 6, 7] [] rfl rfl (by decide) (by decide) (by decide) 0 3 rfl rfl rfl (fun _ _ _ _ _ _ => trivial) (fun _ _ _ => trivial) rfl hl.1 rfl (Nat.le_of_ble_eq_true rfl) dX3_show_203 ⟨Nat.le_of_ble_eq_true rfl, Nat.le_of_ble_eq_true rfl⟩ (fun ⟨t, cc⟩ H locs hpo hP hD hS => ?_)
      have hP : va_P D vwCl (wMd ca g sz (nI f) (nI kk) sh op ln tx ft (mixL (blk (absL r al (r * j)) al (r * j) r)) t cc an al) H := hP
      have hD : va_D A (wMd ca g sz (nI f) (nI kk) sh op ln tx ft (mixL (blk (absL r al (r * j)) al (r * j) r)) t cc an al) := hD
      rw [← abs_blk_end hr1 al (r * j) (Nat.mul_mod_right r j)] at hP hD
      have hP : va_P D vwCl (wMd ca g sz (nI f) (nI kk) sh op ln tx ft (absL r al (r * (j + 1))) t cc an al) H := hP
      have hD : va_D A (wMd ca g sz (nI f) (nI kk) sh op ln tx ft (absL r al (r * (j + 1))) t cc an al) := hD
      refine lv_iload hx hb dX3_show_206 (lv_at hl 1 rfl) ?_
      refine lv_iload_n hx hb dX3_show_208 rfl (lv_at hl 3 rfl) ?_
      refine n_add hx hb dX3_show_209 ?_
      refine tpi (y := nI (r * (j + 1))) (congrArg nI (Nat.mul_succ r j).symm) ?_
      refine lv_istore (lv' := [(5, .int (nI (r * (j + 1)))), (6, .int (nI r)), (4, .int (nI E)), (3, .int (nI r)), (0, .ref (g 0)), (1, .int (nI fm)), (2, .int (nI wn))]) hx hb dX3_show_210 hl (by decide) rfl (fun ls hl => ?_)
      refine lv_goto (tgt := 135) hx hb dX3_show_212 (by decide) ?_
      exact ih (j + 1) (by omega) (by omega) t cc H locs ls ⟨hP, hD, hS⟩ (lv_sub hl [0, 2, 3, 4, 5, 6] rfl)
set_option maxHeartbeats 1000000 in
set_option maxRecDepth 100000 in
theorem shK (sz sh op ln : Int32) (tx ft : Nat → Int32) (Z : Nat → Int64) (an al : Nat → Int32) (f kk r E fm wn : Nat) (S : Nat) (hS0 : S ≤ 4096) (F : Fix p m c cX3_show 7 s args RX3 A D ca)
    (K : ∀ (t cc : Nat → Int64) (H : Heap) (locs : List Loc) (ls : Array Slot), Sta D A s (wMd ca g sz (nI f) (nI kk) sh op ln tx ft (zzL Z S) t cc an al) H locs → lv_has ls 7 [(5, .int (nI (S - S))), (4, .int (nI E)), (3, .int (nI r)), (0, .ref (g 0)), (1, .int (nI fm)), (2, .int (nI wn))] → W p l en rmSh s m args below meth c H locs 0 0 Q (F0 m 235 ls [])) :
    ∀ (n j : Nat), j ≤ S → S + 1 ≤ j + n → ∀ (t cc : Nat → Int64) (H : Heap) (locs : List Loc) (ls : Array Slot), Sta D A s (wMd ca g sz (nI f) (nI kk) sh op ln tx ft (zzL Z j) t cc an al) H locs → lv_has ls 7 [(5, .int (nI (S - j))), (4, .int (nI E)), (3, .int (nI r)), (0, .ref (g 0)), (1, .int (nI fm)), (2, .int (nI wn))] → W p l en rmSh s m args below meth c H locs 0 0 Q (F0 m 220 ls []) := by
  have F1 := F
  obtain ⟨hx, hb, hml, hown, hts, hA, hK⟩ := F
  intro n
  induction n with
  | zero => intro j h1 h2; omega
  | succ n ih =>
    intro j hi hn t cc H locs ls hst hl
    obtain ⟨hP, hD, hS⟩ := hst
    refine lv_iload hx hb dX3_show_220 (lv_at hl 0 rfl) ?_
    refine n_ifle (tgt := 235) hx hb (by omega) dX3_show_222 (by decide) (fun hc => ?_) (fun hc => ?_)
    ·
      have e5 : j = S := by omega
      subst e5
      exact K t cc H locs ls ⟨hP, hD, hS⟩ hl
    ·
      refine lv_aload_n hx hb dX3_show_225 rfl (lv_at hl 3 rfl) ?_
      refine cVv (wr := []) (As := []) (rest := []) ⟨hx, hb, hml, hown, hts⟩ (m_mmix l D ca g sz (nI f) (nI kk) sh op ln tx ft (zzL Z j) t cc an al) (cwV 0 hts (lw_V q286 q288 qs10 q15 q289) rfl rfl rfl (by decide +kernel) ⟨Nat.le_of_ble_eq_true rfl, Nat.le_of_ble_eq_true rfl⟩) hK hP hD hS hA [0, 1, 2, 3, 4, 5, 6, 7] [] rfl rfl (by decide) (by decide) (by decide) 0 3 rfl rfl rfl (fun _ _ _ _ _ _ => trivial) (fun _ _ _ => trivial) rfl hl.1 rfl (Nat.le_of_ble_eq_true rfl) dX3_show_226 ⟨Nat.le_of_ble_eq_true rfl, Nat.le_of_ble_eq_true rfl⟩ (fun ⟨t, cc⟩ H locs hpo hP hD hS => ?_)
      have hP : va_P D vwCl (wMd ca g sz (nI f) (nI kk) sh op ln tx ft (mixL (zzL Z j)) t cc an al) H := hP
      have hD : va_D A (wMd ca g sz (nI f) (nI kk) sh op ln tx ft (mixL (zzL Z j)) t cc an al) := hD
      have hP : va_P D vwCl (wMd ca g sz (nI f) (nI kk) sh op ln tx ft (zzL Z (j + 1)) t cc an al) H := hP
      have hD : va_D A (wMd ca g sz (nI f) (nI kk) sh op ln tx ft (zzL Z (j + 1)) t cc an al) := hD
      refine lv_iinc (v := nI (S - (j + 1))) (lv' := [(5, .int (nI (S - (j + 1)))), (4, .int (nI E)), (3, .int (nI r)), (0, .ref (g 0)), (1, .int (nI fm)), (2, .int (nI wn))]) hx hb dX3_show_229 hl (k := 0) rfl ((sb_m1 hc).trans (congrArg nI (by omega))) (by decide) rfl (fun ls hl => ?_)
      refine lv_goto (tgt := 220) hx hb dX3_show_232 (by decide) ?_
      exact ih (j + 1) (by omega) (by omega) t cc H locs ls ⟨hP, hD, hS⟩ hl
set_option maxHeartbeats 1000000 in
set_option maxRecDepth 100000 in
theorem shG (sz sh op ln : Int32) (tx ft : Nat → Int32) (Z : Nat → Int64) (al : Nat → Int32) (f kk r E fm wn : Nat) (hr1 : 0 < r) (hr0 : r < 200) (hwn : wn ≤ 255) (F : Fix p m c cX3_show 7 s args RX3 A D ca)
    (K : ∀ (k pl : Nat) (t cc : Nat → Int64) (an : Nat → Int32) (H : Heap) (locs : List Loc) (ls : Array Slot), r * k + pl = fm + wn → pl ≤ r → (∀ q, q < wn → an q = outB r Z (fm + q)) → Sta D A s (wMd ca g sz (nI f) (nI kk) sh op ln tx ft (zzL Z k) t cc an al) H locs → lv_has ls 7 [(6, .int (nI wn)), (5, .int (nI pl)), (4, .int (nI E)), (3, .int (nI r)), (0, .ref (g 0)), (1, .int (nI fm)), (2, .int (nI wn))] → W p l en rmSh s m args below meth c H locs 0 0 Q (F0 m 305 ls [])) :
    ∀ (n x : Nat), x ≤ wn → wn + 1 ≤ x + n → ∀ (k pl : Nat) (t cc : Nat → Int64) (an : Nat → Int32) (H : Heap) (locs : List Loc) (ls : Array Slot), r * k + pl = fm + x → pl ≤ r → (∀ q, q < x → an q = outB r Z (fm + q)) → Sta D A s (wMd ca g sz (nI f) (nI kk) sh op ln tx ft (zzL Z k) t cc an al) H locs → lv_has ls 7 [(6, .int (nI x)), (5, .int (nI pl)), (4, .int (nI E)), (3, .int (nI r)), (0, .ref (g 0)), (1, .int (nI fm)), (2, .int (nI wn))] → W p l en rmSh s m args below meth c H locs 0 0 Q (F0 m 243 ls []) := by
  have F1 := F
  obtain ⟨hx, hb, hml, hown, hts, hA, hK⟩ := F
  intro n
  induction n with
  | zero => intro x h1 h2; omega
  | succ n ih =>
    intro x hi hn k pl t cc an H locs ls hkp hpl han hst hl
    obtain ⟨hP, hD, hS⟩ := hst
    refine lv_iload hx hb dX3_show_243 (lv_at hl 0 rfl) ?_
    refine lv_iload_n hx hb dX3_show_245 rfl (lv_at hl 6 rfl) ?_
    refine n_ge (tgt := 305) hx hb (by omega) (by omega) dX3_show_246 (by decide) (fun hc => ?_) (fun hc => ?_)
    ·
      have e5 : x = wn := by omega
      subst e5
      exact K k pl t cc an H locs ls hkp hpl han ⟨hP, hD, hS⟩ hl
    ·
      have tail : ∀ (k pl : Nat) (t cc : Nat → Int64) (H : Heap) (locs : List Loc) (ls : Array Slot), r * k + pl = fm + x → pl < r → Sta D A s (wMd ca g sz (nI f) (nI kk) sh op ln tx ft (zzL Z k) t cc an al) H locs → lv_has ls 7 [(6, .int (nI x)), (5, .int (nI pl)), (4, .int (nI E)), (3, .int (nI r)), (0, .ref (g 0)), (1, .int (nI fm)), (2, .int (nI wn))] → W p l en rmSh s m args below meth c H locs 0 0 Q (F0 m 262 ls []) := by
        intro k pl t cc H locs ls hkp hpl hst hl
        obtain ⟨hP, hD, hS⟩ := hst
        refine lv_aload_n hx hb dX3_show_262 rfl (lv_at hl 4 rfl) ?_
        refine va_get (D := D) (ci := 3) (v := .ref (g 6)) (C := RX3) (T := TX3) (N := 13) hx hb hts in_X3 hown hK hP 0 rfl rfl 10 (by decide) (hts _ q214) (fun _ h9 => h9) rfl dX3_show_263 ?_
        refine lv_iload hx hb dX3_show_266 (lv_at hl 0 rfl) ?_
        refine lv_aload_n hx hb dX3_show_268 rfl (lv_at hl 4 rfl) ?_
        refine va_get (D := D) (ci := 3) (v := .ref (g 3)) (C := RX3) (T := TX3) (N := 13) hx hb hts in_X3 hown hK hP 0 rfl rfl 7 (by decide) (hts _ q211) (fun _ h9 => h9) rfl dX3_show_269 ?_
        refine lv_iload hx hb dX3_show_272 (lv_at hl 1 rfl) ?_
        refine lv_bipush (v := nI 8) hx hb dX3_show_274 (by decide) ?_
        refine n_div hx hb (by omega) (by omega) (by omega) dX3_show_276 ?_
        refine n_lald (v := (zzL Z k) (pl / 8)) hx hb hK hP 3 2 rfl rfl (by omega) (by decide) (rfl) dX3_show_277 ?_
        refine lv_bipush (v := nI 8) hx hb dX3_show_278 (by decide) ?_
        refine lv_iload hx hb dX3_show_280 (lv_at hl 1 rfl) ?_
        refine lv_bipush (v := nI 8) hx hb dX3_show_282 (by decide) ?_
        refine n_rem hx hb (by omega) (by omega) (by omega) dX3_show_284 ?_
        refine n_mul hx hb dX3_show_285 ?_
        refine lv_lushr hx hb dX3_show_286 rfl ?_
        refine lv_l2i hx hb dX3_show_287 rfl ?_
        refine lv_sipush (v := nI 255) hx hb dX3_show_288 (by decide) ?_
        refine lv_iand hx hb dX3_show_291 ?_
        refine n_iast (ws' := wMd ca g sz (nI f) (nI kk) sh op ln tx ft (zzL Z k) t cc (upd an x (obL (zzL Z k) pl)) al) hx hb hK hP hD hS 6 0 (upd an x (obL (zzL Z k) pl)) rfl rfl (by omega) (by decide) (fun _ _ => rfl) rfl dX3_show_292 (fun H locs hP hD hS => ?_)
        refine lv_iload hx hb dX3_show_293 (lv_at hl 1 rfl) ?_
        refine lv_iconst (v := nI 1) hx hb dX3_show_295 (by decide) ?_
        refine n_add hx hb dX3_show_296 ?_
        refine lv_istore (lv' := [(5, .int (nI (pl + 1))), (6, .int (nI x)), (4, .int (nI E)), (3, .int (nI r)), (0, .ref (g 0)), (1, .int (nI fm)), (2, .int (nI wn))]) hx hb dX3_show_297 hl (by decide) rfl (fun ls hl => ?_)
        refine lv_iinc (v := nI (x + 1)) (lv' := [(6, .int (nI (x + 1))), (5, .int (nI (pl + 1))), (4, .int (nI E)), (3, .int (nI r)), (0, .ref (g 0)), (1, .int (nI fm)), (2, .int (nI wn))]) hx hb dX3_show_299 hl (k := 1) rfl (nI_add _ 1) (by decide) rfl (fun ls hl => ?_)
        refine lv_goto (tgt := 243) hx hb dX3_show_302 (by decide) ?_
        refine ih (x + 1) (by omega) (by omega) k (pl + 1) t cc _ H locs ls (by omega) (by omega) (fun q hq => ?_) ⟨hP, hD, hS⟩ (lv_sub hl [0, 1, 2, 3, 4, 5, 6] rfl)
        show (if q = x then obL (zzL Z k) pl else an q) = _
        by_cases hqx : q = x
        · rw [if_pos hqx, hqx, ← hkp]; exact (outB_at (r := r) Z hpl).symm
        · rw [if_neg hqx]; exact han q (by omega)
      refine lv_iload hx hb dX3_show_249 (lv_at hl 1 rfl) ?_
      refine lv_iload_n hx hb dX3_show_251 rfl (lv_at hl 3 rfl) ?_
      refine n_ne (tgt := 262) hx hb (by omega) (by omega) dX3_show_252 (by decide) (fun he => ?_) (fun he => ?_)
      ·
        exact tail k pl t cc H locs ls hkp (by omega) ⟨hP, hD, hS⟩ hl
      ·
        refine lv_aload_n hx hb dX3_show_255 rfl (lv_at hl 4 rfl) ?_
        refine cVv (wr := []) (As := []) (rest := []) ⟨hx, hb, hml, hown, hts⟩ (m_mmix l D ca g sz (nI f) (nI kk) sh op ln tx ft (zzL Z k) t cc an al) (cwV 0 hts (lw_V q286 q288 qs10 q15 q289) rfl rfl rfl (by decide +kernel) ⟨Nat.le_of_ble_eq_true rfl, Nat.le_of_ble_eq_true rfl⟩) hK hP hD hS hA [0, 1, 2, 3, 4, 5, 6, 7] [] rfl rfl (by decide) (by decide) (by decide) 0 3 rfl rfl rfl (fun _ _ _ _ _ _ => trivial) (fun _ _ _ => trivial) rfl hl.1 rfl (Nat.le_of_ble_eq_true rfl) dX3_show_256 ⟨Nat.le_of_ble_eq_true rfl, Nat.le_of_ble_eq_true rfl⟩ (fun ⟨t, cc⟩ H locs hpo hP hD hS => ?_)
        have hP : va_P D vwCl (wMd ca g sz (nI f) (nI kk) sh op ln tx ft (mixL (zzL Z k)) t cc an al) H := hP
        have hD : va_D A (wMd ca g sz (nI f) (nI kk) sh op ln tx ft (mixL (zzL Z k)) t cc an al) := hD
        have hP : va_P D vwCl (wMd ca g sz (nI f) (nI kk) sh op ln tx ft (zzL Z (k + 1)) t cc an al) H := hP
        have hD : va_D A (wMd ca g sz (nI f) (nI kk) sh op ln tx ft (zzL Z (k + 1)) t cc an al) := hD
        refine lv_iconst (v := nI 0) hx hb dX3_show_259 (by decide) ?_
        refine lv_istore (lv' := [(5, .int (nI 0)), (6, .int (nI x)), (4, .int (nI E)), (3, .int (nI r)), (0, .ref (g 0)), (1, .int (nI fm)), (2, .int (nI wn))]) hx hb dX3_show_260 hl (by decide) rfl (fun ls hl => ?_)
        exact tail (k + 1) 0 t cc H locs ls (by rw [Nat.mul_add]; omega) hr1 ⟨hP, hD, hS⟩ (lv_sub hl [1, 0, 2, 3, 4, 5, 6] rfl)
set_option maxHeartbeats 1000000 in
set_option maxRecDepth 100000 in
theorem shM (sz sh op ln : Int32) (tx ft : Nat → Int32) (wd t cc : Nat → Int64) (an al : Nat → Int32) (f kk r E fm wn : Nat) (hf : f ≤ 2048) (hkk : kk < 6) (F : Fix p m c cX3_show 7 s args RX3 A D ca) {H : Heap} {locs : List Loc} {ls : Array Slot} (hst : Sta D A s (wMd ca g sz (nI f) (nI kk) sh op ln tx ft wd t cc an al) H locs) (hl : lv_has ls 7 [(5, .int (nI E)), (4, .int (nI E)), (3, .int (nI r)), (0, .ref (g 0)), (1, .int (nI fm)), (2, .int (nI wn))])
    (K : W p l en rmSh s m args below meth c H locs 0 0 Q (F0 m 83 ls [.int (nI (if kk < 4 then 6 else 31)), .int (nI f), .ref (g 7)])) : W p l en rmSh s m args below meth c H locs 0 0 Q (F0 m 60 ls []) := by
  obtain ⟨hx, hb, hml, hown, hts, hA, hK⟩ := F
  obtain ⟨hP, hD, hS⟩ := hst
  refine lv_aload_n hx hb dX3_show_60 rfl (lv_at hl 3 rfl) ?_
  refine va_get (D := D) (ci := 3) (v := .ref (g 7)) (C := RX3) (T := TX3) (N := 13) hx hb hts in_X3 hown hK hP 0 rfl rfl 12 (by decide) (hts _ q216) (fun _ h9 => h9) rfl dX3_show_61 ?_
  refine lv_aload_n hx hb dX3_show_64 rfl (lv_at hl 3 rfl) ?_
  refine va_get (D := D) (ci := 3) (v := .int (nI f)) (C := RX3) (T := TX3) (N := 13) hx hb hts in_X3 hown hK hP 0 rfl rfl 3 (by decide) (hts _ q207) (fun _ h9 => h9) rfl dX3_show_65 ?_
  refine lv_aload_n hx hb dX3_show_68 rfl (lv_at hl 3 rfl) ?_
  refine va_get (D := D) (ci := 3) (v := .int (nI kk)) (C := RX3) (T := TX3) (N := 13) hx hb hts in_X3 hown hK hP 0 rfl rfl 4 (by decide) (hts _ q208) (fun _ h9 => h9) rfl dX3_show_69 ?_
  refine lv_iconst (v := nI 4) hx hb dX3_show_72 (by decide) ?_
  refine n_ge (tgt := 81) hx hb (by omega) (by omega) dX3_show_73 (by decide) (fun hc => ?_) (fun hc => ?_)
  ·
    refine lv_bipush (v := nI 31) hx hb dX3_show_81 (by decide) ?_
    rw [if_neg (show ¬ kk < 4 by omega)] at K
    exact K
  ·
    refine lv_bipush (v := nI 6) hx hb dX3_show_76 (by decide) ?_
    refine lv_goto (tgt := 83) hx hb dX3_show_78 (by decide) ?_
    rw [if_pos hc] at K
    exact K
end MSH
set_option maxHeartbeats 1000000 in
set_option maxRecDepth 100000 in
theorem m_show (l : Launch) (D : va_G) (ca : Nat → ClassId) (g : Nat → Nat) (sz sh op ln : Int32) (tx ft : Nat → Int32) (wd t cc : Nat → Int64) (an al : Nat → Int32) (f kk fm wn : Nat) (hf : f ≤ 2048) (hkk : kk < 6) (hfm : fm ≤ 4096) (hwn : wn ≤ 255) : MV l yX3_show cX3_show 7 rmSh D ca noX [.ref (g 0), .int (nI fm), .int (nI wn)] (wMd ca g sz (nI f) (nI kk) sh op ln tx ft wd t cc an al) (S := (Nat → Int64) × (Nat → Int64) × (Nat → Int64) × (Nat → Int32) × (Nat → Int32)) (fun u => ∀ q, q < wn → u.2.2.2.1 q = outB (RT kk) (finL (RT kk) (absL (RT kk) ft f) (f % RT kk) (nI (if kk < 4 then 6 else 31))) (fm + q)) (fun u => wMd ca g sz (nI f) (nI kk) sh op ln tx ft u.1 u.2.1 u.2.2.1 u.2.2.2.1 u.2.2.2.2) 0 0 := by
  refine MV.of (by decide) (Nat.le_of_ble_eq_true rfl) ?_
  intro p en s m below meth c A hx hb hr hml hlk hown hts hnm hA hP hK hD hS hX ls hl
  have hown : s.vm.findClass RX3 = some m.cls := hown
  have hl : lv_has ls 7 [(0, .ref (g 0)), (1, .int (nI fm)), (2, .int (nI wn))] := hl
  have F1 : Fix p m c cX3_show 7 s _ RX3 A D ca := ⟨hx, hb, hml, hown, hts, hA, hK⟩
  obtain ⟨hr1, hr0, hr72⟩ := RT_lt kk hkk
  refine lv_aload_n hx hb dX3_show_0 rfl (lv_at hl 0 rfl) ?_
  refine cVi (wr := []) (As := []) (rest := []) ⟨hx, hb, hml, hown, hts⟩ (m_rate l D ca g sz (nI f) sh op ln tx ft wd t cc an al kk hkk) (cwV 0 hts (lw_V q282 q284 qs9 q15 q285) rfl rfl rfl (by decide +kernel) ⟨Nat.le_of_ble_eq_true rfl, Nat.le_of_ble_eq_true rfl⟩) hK hP hD hS hA [0, 1, 2, 3, 4, 5, 6, 7] [] rfl rfl (by decide) (by decide) (by decide) 0 3 rfl rfl rfl (fun _ _ _ _ _ _ => trivial) (fun _ _ _ => trivial) rfl hl.1 rfl (Nat.le_of_ble_eq_true rfl) dX3_show_1 ⟨Nat.le_of_ble_eq_true rfl, Nat.le_of_ble_eq_true rfl⟩ (fun v _ H locs hpo hP hD hS => ?_)
  have hP : va_P D vwCl (wMd ca g sz (nI f) (nI kk) sh op ln tx ft wd t cc an al) H := hP
  have hD : va_D A (wMd ca g sz (nI f) (nI kk) sh op ln tx ft wd t cc an al) := hD
  have hpo : v = nI (RT kk) := hpo
  refine tpi (y := nI (RT kk)) (hpo) ?_
  generalize hrr : RT kk = r at hr1 hr0 hr72 ⊢
  obtain ⟨E, hE⟩ : ∃ E, E = (f / r + 1) * r := ⟨_, rfl⟩
  have hdl : f / r * r ≤ f := Nat.div_mul_le_self f r
  have hE2 : E = f / r * r + r := by rw [hE, Nat.add_mul, Nat.one_mul]
  have hfE : f < E := by have h1 := Nat.div_add_mod f r; have h2 := Nat.mod_lt f hr1; rw [Nat.mul_comm] at h1; omega
  have hE0 : E ≤ 2304 := by omega
  have hdf : f / r ≤ f := Nat.div_le_self f r
  refine lv_istore_n (lv' := [(3, .int (nI r)), (0, .ref (g 0)), (1, .int (nI fm)), (2, .int (nI wn))]) hx hb dX3_show_4 rfl hl (by decide) rfl (fun ls hl => ?_)
  refine lv_aload_n hx hb dX3_show_5 rfl (lv_at hl 1 rfl) ?_
  refine va_get (D := D) (ci := 3) (v := .int (nI f)) (C := RX3) (T := TX3) (N := 13) hx hb hts in_X3 hown hK hP 0 rfl rfl 3 (by decide) (hts _ q207) (fun _ h9 => h9) rfl dX3_show_6 ?_
  refine lv_iload_n hx hb dX3_show_9 rfl (lv_at hl 0 rfl) ?_
  refine n_div hx hb (by omega) (by omega) (by omega) dX3_show_10 ?_
  refine lv_iconst (v := nI 1) hx hb dX3_show_11 (by decide) ?_
  refine n_add hx hb dX3_show_12 ?_
  refine lv_iload_n hx hb dX3_show_13 rfl (lv_at hl 0 rfl) ?_
  refine n_mul hx hb dX3_show_14 ?_
  refine tpi (y := nI E) (congrArg nI hE.symm) ?_
  refine lv_istore (lv' := [(4, .int (nI E)), (3, .int (nI r)), (0, .ref (g 0)), (1, .int (nI fm)), (2, .int (nI wn))]) hx hb dX3_show_15 hl (by decide) rfl (fun ls hl => ?_)
  refine lv_iconst (v := nI 0) hx hb dX3_show_17 (by decide) ?_
  refine lv_istore (lv' := [(5, .int (nI 0)), (4, .int (nI E)), (3, .int (nI r)), (0, .ref (g 0)), (1, .int (nI fm)), (2, .int (nI wn))]) hx hb dX3_show_18 hl (by decide) rfl (fun ls hl => ?_)
  have hP : va_P D vwCl (wMd ca g sz (nI f) (nI kk) sh op ln tx ft wd t cc an (mid id 0 (al1 ft f) al)) H := by rw [mid_0]; exact hP
  have hD : va_D A (wMd ca g sz (nI f) (nI kk) sh op ln tx ft wd t cc an (mid id 0 (al1 ft f) al)) := by rw [mid_0]; exact hD
  refine shA sz sh op ln tx ft wd t cc an al f kk r E fm wn hf hE0 F1 (fun H locs ls hst hl => ?_) (E + 1) 0 (by omega) (by omega) _ _ ls ⟨hP, hD, hS⟩ (lv_sub hl [0, 1, 2, 3, 4, 5] rfl)
  obtain ⟨hP, hD, hS⟩ := hst
  refine shM sz sh op ln tx ft wd t cc an (mid id E (al1 ft f) al) f kk r E fm wn hf hkk F1 ⟨hP, hD, hS⟩ hl ?_
  refine lv_i2b hx hb dX3_show_83 rfl ?_
  refine n_bast (ws' := wMd ca g sz (nI f) (nI kk) sh op ln tx ft wd t cc an (al2 (mid id E (al1 ft f) al) f (if kk < 4 then 6 else 31))) hx hb hK hP hD hS 7 1 (al2 (mid id E (al1 ft f) al) f (if kk < 4 then 6 else 31)) rfl rfl (by omega) (by decide) (fun _ _ => rfl) rfl dX3_show_84 (fun H locs hP hD hS => ?_)
  refine lv_aload_n hx hb dX3_show_85 rfl (lv_at hl 3 rfl) ?_
  refine va_get (D := D) (ci := 3) (v := .ref (g 7)) (C := RX3) (T := TX3) (N := 13) hx hb hts in_X3 hown hK hP 0 rfl rfl 12 (by decide) (hts _ q216) (fun _ h9 => h9) rfl dX3_show_86 ?_
  refine lv_iload hx hb dX3_show_89 (lv_at hl 1 rfl) ?_
  refine lv_iconst (v := nI 1) hx hb dX3_show_91 (by decide) ?_
  refine n_sub hx hb (by omega) dX3_show_92 ?_
  refine lv_aload_n hx hb dX3_show_93 rfl (lv_at hl 3 rfl) ?_
  refine va_get (D := D) (ci := 3) (v := .ref (g 7)) (C := RX3) (T := TX3) (N := 13) hx hb hts in_X3 hown hK hP 0 rfl rfl 12 (by decide) (hts _ q216) (fun _ h9 => h9) rfl dX3_show_94 ?_
  refine lv_iload hx hb dX3_show_97 (lv_at hl 1 rfl) ?_
  refine lv_iconst (v := nI 1) hx hb dX3_show_99 (by decide) ?_
  refine n_sub hx hb (by omega) dX3_show_100 ?_
  refine n_bald (v := (al2 (mid id E (al1 ft f) al) f (if kk < 4 then 6 else 31)) (E - 1)) hx hb hK hP 7 1 rfl rfl (by omega) (by decide) (rfl) dX3_show_101 ?_
  refine lv_sipush (v := nI 128) hx hb dX3_show_102 (by decide) ?_
  refine lv_ixor hx hb dX3_show_105 ?_
  refine lv_i2b hx hb dX3_show_106 rfl ?_
  refine n_bast (ws' := wMd ca g sz (nI f) (nI kk) sh op ln tx ft wd t cc an (al3 (al2 (mid id E (al1 ft f) al) f (if kk < 4 then 6 else 31)) E)) hx hb hK hP hD hS 7 1 (al3 (al2 (mid id E (al1 ft f) al) f (if kk < 4 then 6 else 31)) E) rfl rfl (by omega) (by decide) (fun _ _ => rfl) rfl dX3_show_107 (fun H locs hP hD hS => ?_)
  have hpad := show_pad (r := r) (f := f) (mk := (if kk < 4 then 6 else 31)) (E := E) hr1 (by by_cases h4 : kk < 4 <;> simp [h4]) hE ft al
  generalize al3 (al2 (mid id E (al1 ft f) al) f (if kk < 4 then 6 else 31)) E = alz at hP hD hpad
  refine lv_iconst (v := nI 0) hx hb dX3_show_108 (by decide) ?_
  refine lv_istore (lv' := [(5, .int (nI 0)), (4, .int (nI E)), (3, .int (nI r)), (0, .ref (g 0)), (1, .int (nI fm)), (2, .int (nI wn))]) hx hb dX3_show_109 hl (by decide) rfl (fun ls hl => ?_)
  have hP : va_P D vwCl (wMd ca g sz (nI f) (nI kk) sh op ln tx ft (mid id 0 (fun _ => 0) wd) t cc an alz) H := by rw [mid_0]; exact hP
  have hD : va_D A (wMd ca g sz (nI f) (nI kk) sh op ln tx ft (mid id 0 (fun _ => 0) wd) t cc an alz) := by rw [mid_0]; exact hD
  refine shW sz sh op ln tx ft wd t cc an alz f kk r E fm wn F1 (fun H locs ls hst hl => ?_) 26 0 (by omega) (by omega) _ _ ls ⟨hP, hD, hS⟩ (lv_sub hl [0, 1, 2, 3, 4, 5] rfl)
  obtain ⟨hP, hD, hS⟩ := hst
  obtain ⟨hP, hD⟩ := P_fnL (ws' := wMd ca g sz (nI f) (nI kk) sh op ln tx ft (absL r alz (r * 0)) t cc an alz) hP hD 3 (absL r alz (r * 0)) rfl (mid_end (fun q hq => hq)) rfl
  refine lv_iconst (v := nI 0) hx hb dX3_show_132 (by decide) ?_
  refine tpi (y := nI (r * 0)) (rfl) ?_
  refine lv_istore (lv' := [(5, .int (nI (r * 0))), (4, .int (nI E)), (3, .int (nI r)), (0, .ref (g 0)), (1, .int (nI fm)), (2, .int (nI wn))]) hx hb dX3_show_133 hl (by decide) rfl (fun ls hl => ?_)
  refine shB sz sh op ln tx ft an alz f kk r E fm wn (f / r + 1) hr1 hr0 (by rw [hE, Nat.mul_comm]) hE0 F1 (fun t cc H locs ls hst hl => ?_) (f / r + 2) 0 (Nat.zero_le _) (Nat.le_of_eq (Nat.zero_add _).symm) t cc _ _ ls ⟨hP, hD, hS⟩ (lv_sub hl [0, 1, 2, 3, 4, 5] rfl)
  obtain ⟨hP, hD, hS⟩ := hst
  rw [show r * (f / r + 1) = E by rw [hE, Nat.mul_comm], hpad] at hP hD
  have hP : va_P D vwCl (wMd ca g sz (nI f) (nI kk) sh op ln tx ft (zzL (finL r (absL r ft f) (f % r) (nI (if kk < 4 then 6 else 31))) 0) t cc an alz) H := hP
  have hD : va_D A (wMd ca g sz (nI f) (nI kk) sh op ln tx ft (zzL (finL r (absL r ft f) (f % r) (nI (if kk < 4 then 6 else 31))) 0) t cc an alz) := hD
  generalize hZ : finL r (absL r ft f) (f % r) (nI (if kk < 4 then 6 else 31)) = Z at hP hD ⊢
  have hfr0 : fm / r ≤ fm := Nat.div_le_self fm r
  refine lv_iload_n hx hb dX3_show_215 rfl (lv_at hl 4 rfl) ?_
  refine lv_iload_n hx hb dX3_show_216 rfl (lv_at hl 2 rfl) ?_
  refine n_div hx hb (by omega) (by omega) (by omega) dX3_show_217 ?_
  refine tpi (y := nI (fm / r - 0)) (rfl) ?_
  refine lv_istore (lv' := [(5, .int (nI (fm / r - 0))), (4, .int (nI E)), (3, .int (nI r)), (0, .ref (g 0)), (1, .int (nI fm)), (2, .int (nI wn))]) hx hb dX3_show_218 hl (by decide) rfl (fun ls hl => ?_)
  refine shK sz sh op ln tx ft Z an alz f kk r E fm wn (fm / r) (by omega) F1 (fun t cc H locs ls hst hl => ?_) (fm / r + 1) 0 (Nat.zero_le _) (Nat.le_of_eq (Nat.zero_add _).symm) t cc _ _ ls ⟨hP, hD, hS⟩ (lv_sub hl [0, 1, 2, 3, 4, 5] rfl)
  obtain ⟨hP, hD, hS⟩ := hst
  refine lv_iload_n hx hb dX3_show_235 rfl (lv_at hl 4 rfl) ?_
  refine lv_iload_n hx hb dX3_show_236 rfl (lv_at hl 2 rfl) ?_
  refine n_rem hx hb (by omega) (by omega) (by omega) dX3_show_237 ?_
  refine lv_istore (lv' := [(5, .int (nI (fm % r))), (4, .int (nI E)), (3, .int (nI r)), (0, .ref (g 0)), (1, .int (nI fm)), (2, .int (nI wn))]) hx hb dX3_show_238 hl (by decide) rfl (fun ls hl => ?_)
  refine lv_iconst (v := nI 0) hx hb dX3_show_240 (by decide) ?_
  refine lv_istore (lv' := [(6, .int (nI 0)), (5, .int (nI (fm % r))), (4, .int (nI E)), (3, .int (nI r)), (0, .ref (g 0)), (1, .int (nI fm)), (2, .int (nI wn))]) hx hb dX3_show_241 hl (by decide) rfl (fun ls hl => ?_)
  refine shG sz sh op ln tx ft Z alz f kk r E fm wn hr1 hr0 hwn F1 (fun k pl t cc an H locs ls hkp hpl han hst hl => ?_) (wn + 1) 0 (by omega) (by omega) (fm / r) (fm % r) t cc an _ _ ls (by rw [Nat.div_add_mod]; rfl) (Nat.le_of_lt (Nat.mod_lt _ hr1)) (fun q hq => absurd hq (by omega)) ⟨hP, hD, hS⟩ (lv_sub hl [0, 1, 2, 3, 4, 5, 6] rfl)
  obtain ⟨hP, hD, hS⟩ := hst
  exact vend hx hb hr hlk (zzL Z k, t, cc, an, alz) han hP hK hD hS (Nat.le_refl _) (Nat.le_refl _) dX3_show_305
section MCL
variable {p : Program} {l : Launch} {en : Env} {s : State} {m : MethodId} {args : Array Value} {below : List Frame} {meth : Method} {c : Code} {Q : State → Prop} {D : va_G} {ca : Nat → ClassId} {A : Nat → Prop} {g : Nat → Nat}
set_option maxHeartbeats 1000000 in
set_option maxRecDepth 100000 in
theorem mcl_w (sz ln : Int32) (tx ft : Nat → Int32) (wd t cc : Nat → Int64) (an al : Nat → Int32) (op : Nat) (kk f sh wn : Nat) (hkk : kk < 6) (hf : f ≤ 2048) (hsh : sh ≤ 4096) (nn : Int32) (hwn : wn = if kk < 4 then SU kk else cu8 nn) (F : Fix p m c cX3_close 3 s args RX3 A D ca) {H : Heap} {locs : List Loc} {ls : Array Slot} (hst : Sta D A s (wMd ca g sz (nI f) (nI kk) (nI sh) (nI op) ln tx ft wd t cc an al) H locs) (hl : lv_has ls 3 [(0, .ref (g 0)), (1, .int nn)])
    (K : W p l en rmMc s m args below meth c H locs 0 0 Q (F0 m 56 ls [.int (nI wn)])) : W p l en rmMc s m args below meth c H locs 0 0 Q (F0 m 0 ls []) := by
  obtain ⟨hx, hb, hml, hown, hts, hA, hK⟩ := F
  obtain ⟨hP, hD, hS⟩ := hst
  refine lv_aload_n hx hb dX3_close_0 rfl (lv_at hl 0 rfl) ?_
  refine va_get (D := D) (ci := 3) (v := .int (nI kk)) (C := RX3) (T := TX3) (N := 13) hx hb hts in_X3 hown hK hP 0 rfl rfl 4 (by decide) (hts _ q208) (fun _ h9 => h9) rfl dX3_close_1 ?_
  refine n_ifne (tgt := 12) hx hb (by omega) dX3_close_4 (by decide) (fun hc0 => ?_) (fun hc0 => ?_)
  ·
    refine lv_aload_n hx hb dX3_close_12 rfl (lv_at hl 0 rfl) ?_
    refine va_get (D := D) (ci := 3) (v := .int (nI kk)) (C := RX3) (T := TX3) (N := 13) hx hb hts in_X3 hown hK hP 0 rfl rfl 4 (by decide) (hts _ q208) (fun _ h9 => h9) rfl dX3_close_13 ?_
    refine lv_iconst (v := nI 1) hx hb dX3_close_16 (by decide) ?_
    refine n_ne (tgt := 25) hx hb (by omega) (by omega) dX3_close_17 (by decide) (fun hc1 => ?_) (fun hc1 => ?_)
    ·
      refine lv_aload_n hx hb dX3_close_25 rfl (lv_at hl 0 rfl) ?_
      refine va_get (D := D) (ci := 3) (v := .int (nI kk)) (C := RX3) (T := TX3) (N := 13) hx hb hts in_X3 hown hK hP 0 rfl rfl 4 (by decide) (hts _ q208) (fun _ h9 => h9) rfl dX3_close_26 ?_
      refine lv_iconst (v := nI 2) hx hb dX3_close_29 (by decide) ?_
      refine n_ne (tgt := 38) hx hb (by omega) (by omega) dX3_close_30 (by decide) (fun hc2 => ?_) (fun hc2 => ?_)
      ·
        refine lv_aload_n hx hb dX3_close_38 rfl (lv_at hl 0 rfl) ?_
        refine va_get (D := D) (ci := 3) (v := .int (nI kk)) (C := RX3) (T := TX3) (N := 13) hx hb hts in_X3 hown hK hP 0 rfl rfl 4 (by decide) (hts _ q208) (fun _ h9 => h9) rfl dX3_close_39 ?_
        refine lv_iconst (v := nI 3) hx hb dX3_close_42 (by decide) ?_
        refine n_ne (tgt := 51) hx hb (by omega) (by omega) dX3_close_43 (by decide) (fun hc3 => ?_) (fun hc3 => ?_)
        ·
          refine lv_iload_n hx hb dX3_close_51 rfl (lv_at hl 1 rfl) ?_
          refine lv_sipush (v := nI 255) hx hb dX3_close_52 (by decide) ?_
          refine lv_iand hx hb dX3_close_55 ?_
          refine tpi (y := nI wn) ((cu8_eq nn).1.trans (congrArg nI (by rw [hwn, if_neg (by omega)]))) ?_
          exact K
        ·
          subst hc3
          refine lv_bipush (v := nI 64) hx hb dX3_close_46 (by decide) ?_
          refine lv_goto (tgt := 56) hx hb dX3_close_48 (by decide) ?_
          refine tpi (y := nI wn) (congrArg nI (show 64 = wn by rw [hwn]; rfl)) ?_
          exact K
      ·
        subst hc2
        refine lv_bipush (v := nI 48) hx hb dX3_close_33 (by decide) ?_
        refine lv_goto (tgt := 56) hx hb dX3_close_35 (by decide) ?_
        refine tpi (y := nI wn) (congrArg nI (show 48 = wn by rw [hwn]; rfl)) ?_
        exact K
    ·
      subst hc1
      refine lv_bipush (v := nI 32) hx hb dX3_close_20 (by decide) ?_
      refine lv_goto (tgt := 56) hx hb dX3_close_22 (by decide) ?_
      refine tpi (y := nI wn) (congrArg nI (show 32 = wn by rw [hwn]; rfl)) ?_
      exact K
  ·
    subst hc0
    refine lv_bipush (v := nI 28) hx hb dX3_close_7 (by decide) ?_
    refine lv_goto (tgt := 56) hx hb dX3_close_9 (by decide) ?_
    refine tpi (y := nI wn) (congrArg nI (show 28 = wn by rw [hwn]; rfl)) ?_
    exact K
end MCL
set_option maxHeartbeats 1000000 in
set_option maxRecDepth 100000 in
theorem m_mclose_no (l : Launch) (D : va_G) (ca : Nat → ClassId) (g : Nat → Nat) (sz ln : Int32) (tx ft : Nat → Int32) (wd t cc : Nat → Int64) (an al : Nat → Int32) (kk f sh wn : Nat) (hkk : kk < 6) (hf : f ≤ 2048) (hsh : sh ≤ 4096) (nn : Int32) (hwn : wn = if kk < 4 then SU kk else cu8 nn) (op : Nat) (hop : op ≤ 1) (hno : (kk < 4 ∧ op = 0) ∨ (3 < kk ∧ 4096 < sh + wn)) : MI l yX3_close cX3_close 3 .int rmMc D ca noX [.ref (g 0), .int nn] (wMd ca g sz (nI f) (nI kk) (nI sh) (nI op) ln tx ft wd t cc an al) (S := Unit) (fun v _ => v = -1) (fun _ => wMd ca g sz (nI f) (nI kk) (nI sh) (nI op) ln tx ft wd t cc an al) 0 0 := by
  refine MI.of (by decide) (Nat.le_of_ble_eq_true rfl) ?_
  intro p en s m below meth c A hx hb hr hml hlk hown hts hnm hA hP hK hD hS hX ls hl
  have hown : s.vm.findClass RX3 = some m.cls := hown
  have hl : lv_has ls 3 [(0, .ref (g 0)), (1, .int nn)] := hl
  have F1 : Fix p m c cX3_close 3 s _ RX3 A D ca := ⟨hx, hb, hml, hown, hts, hA, hK⟩
  have h255 : wn ≤ 255 := by
    by_cases h4 : kk < 4
    · rw [if_pos h4] at hwn; have := SU_lt kk h4; omega
    · rw [if_neg h4] at hwn; have := (cu8_eq nn).2; omega
  refine mcl_w sz ln tx ft wd t cc an al op kk f sh wn hkk hf hsh nn hwn F1 ⟨hP, hD, hS⟩ hl ?_
  refine lv_istore_n (lv' := [(2, .int (nI wn)), (0, .ref (g 0)), (1, .int nn)]) hx hb dX3_close_56 rfl hl (by decide) rfl (fun ls hl => ?_)
  refine lv_aload_n hx hb dX3_close_57 rfl (lv_at hl 1 rfl) ?_
  refine va_get (D := D) (ci := 3) (v := .int (nI kk)) (C := RX3) (T := TX3) (N := 13) hx hb hts in_X3 hown hK hP 0 rfl rfl 4 (by decide) (hts _ q208) (fun _ h9 => h9) rfl dX3_close_58 ?_
  refine lv_iconst (v := nI 4) hx hb dX3_close_61 (by decide) ?_
  refine n_ge (tgt := 72) hx hb (by omega) (by omega) dX3_close_62 (by decide) (fun h4 => ?_) (fun h4 => ?_)
  ·
    refine lv_aload_n hx hb dX3_close_72 rfl (lv_at hl 1 rfl) ?_
    refine va_get (D := D) (ci := 3) (v := .int (nI kk)) (C := RX3) (T := TX3) (N := 13) hx hb hts in_X3 hown hK hP 0 rfl rfl 4 (by decide) (hts _ q208) (fun _ h9 => h9) rfl dX3_close_73 ?_
    refine lv_iconst (v := nI 3) hx hb dX3_close_76 (by decide) ?_
    refine n_le (tgt := 94) hx hb (by omega) (by omega) dX3_close_77 (by decide) (fun h3 => ?_) (fun h3 => ?_)
    ·
      omega
    ·
      refine lv_aload_n hx hb dX3_close_80 rfl (lv_at hl 1 rfl) ?_
      refine va_get (D := D) (ci := 3) (v := .int (nI sh)) (C := RX3) (T := TX3) (N := 13) hx hb hts in_X3 hown hK hP 0 rfl rfl 5 (by decide) (hts _ q209) (fun _ h9 => h9) rfl dX3_close_81 ?_
      refine lv_iload_n hx hb dX3_close_84 rfl (lv_at hl 0 rfl) ?_
      refine n_add hx hb dX3_close_85 ?_
      refine lv_sipush (v := nI 4096) hx hb dX3_close_86 (by decide) ?_
      refine n_le (tgt := 94) hx hb (by omega) (by omega) dX3_close_89 (by decide) (fun hle => ?_) (fun hle => ?_)
      ·
        omega
      ·
        refine lv_iconst (v := -1) hx hb dX3_close_92 (by decide) ?_
        exact iend hx hb hr hlk () rfl hP hK hD hS (Nat.le_refl _) (Nat.le_refl _) dX3_close_93
  ·
    refine lv_aload_n hx hb dX3_close_65 rfl (lv_at hl 1 rfl) ?_
    refine va_get (D := D) (ci := 3) (v := .int (nI op)) (C := RX3) (T := TX3) (N := 13) hx hb hts in_X3 hown hK hP 0 rfl rfl 6 (by decide) (hts _ q210) (fun _ h9 => h9) rfl dX3_close_66 ?_
    refine n_ifeq (tgt := 92) hx hb (by omega) dX3_close_69 (by decide) (fun ho => ?_) (fun ho => ?_)
    ·
      refine lv_iconst (v := -1) hx hb dX3_close_92 (by decide) ?_
      exact iend hx hb hr hlk () rfl hP hK hD hS (Nat.le_refl _) (Nat.le_refl _) dX3_close_93
    ·
      refine lv_aload_n hx hb dX3_close_72 rfl (lv_at hl 1 rfl) ?_
      refine va_get (D := D) (ci := 3) (v := .int (nI kk)) (C := RX3) (T := TX3) (N := 13) hx hb hts in_X3 hown hK hP 0 rfl rfl 4 (by decide) (hts _ q208) (fun _ h9 => h9) rfl dX3_close_73 ?_
      refine lv_iconst (v := nI 3) hx hb dX3_close_76 (by decide) ?_
      refine n_le (tgt := 94) hx hb (by omega) (by omega) dX3_close_77 (by decide) (fun h3 => ?_) (fun h3 => ?_)
      ·
        omega
      ·
        refine lv_aload_n hx hb dX3_close_80 rfl (lv_at hl 1 rfl) ?_
        refine va_get (D := D) (ci := 3) (v := .int (nI sh)) (C := RX3) (T := TX3) (N := 13) hx hb hts in_X3 hown hK hP 0 rfl rfl 5 (by decide) (hts _ q209) (fun _ h9 => h9) rfl dX3_close_81 ?_
        refine lv_iload_n hx hb dX3_close_84 rfl (lv_at hl 0 rfl) ?_
        refine n_add hx hb dX3_close_85 ?_
        refine lv_sipush (v := nI 4096) hx hb dX3_close_86 (by decide) ?_
        refine n_le (tgt := 94) hx hb (by omega) (by omega) dX3_close_89 (by decide) (fun hle => ?_) (fun hle => ?_)
        ·
          omega
        ·
          refine lv_iconst (v := -1) hx hb dX3_close_92 (by decide) ?_
          exact iend hx hb hr hlk () rfl hP hK hD hS (Nat.le_refl _) (Nat.le_refl _) dX3_close_93
set_option maxHeartbeats 1000000 in
set_option maxRecDepth 100000 in
theorem m_mclose (l : Launch) (D : va_G) (ca : Nat → ClassId) (g : Nat → Nat) (sz ln : Int32) (tx ft : Nat → Int32) (wd t cc : Nat → Int64) (an al : Nat → Int32) (kk f sh wn : Nat) (hkk : kk < 6) (hf : f ≤ 2048) (hsh : sh ≤ 4096) (nn : Int32) (hwn : wn = if kk < 4 then SU kk else cu8 nn) (op : Nat) (hop : op ≤ 1) (h1 : kk < 4 → op = 1) (h2 : 3 < kk → sh + wn ≤ 4096) : MI l yX3_close cX3_close 3 .int rmMc D ca noX [.ref (g 0), .int nn] (wMd ca g sz (nI f) (nI kk) (nI sh) (nI op) ln tx ft wd t cc an al) (S := (Nat → Int64) × (Nat → Int64) × (Nat → Int64) × (Nat → Int32) × (Nat → Int32)) (fun v u => v = nI wn ∧ ∀ q, q < wn → u.2.2.2.1 q = outB (RT kk) (finL (RT kk) (absL (RT kk) ft f) (f % RT kk) (nI (if kk < 4 then 6 else 31))) (sh + q)) (fun u => wMd ca g sz (nI f) (nI kk) (nI (sh + wn)) (nI 0) (nI wn) tx ft u.1 u.2.1 u.2.2.1 u.2.2.2.1 u.2.2.2.2) 0 0 := by
  refine MI.of (by decide) (Nat.le_of_ble_eq_true rfl) ?_
  intro p en s m below meth c A hx hb hr hml hlk hown hts hnm hA hP hK hD hS hX ls hl
  have hown : s.vm.findClass RX3 = some m.cls := hown
  have hl : lv_has ls 3 [(0, .ref (g 0)), (1, .int nn)] := hl
  have F1 : Fix p m c cX3_close 3 s _ RX3 A D ca := ⟨hx, hb, hml, hown, hts, hA, hK⟩
  have h255 : wn ≤ 255 := by
    by_cases h4 : kk < 4
    · rw [if_pos h4] at hwn; have := SU_lt kk h4; omega
    · rw [if_neg h4] at hwn; have := (cu8_eq nn).2; omega
  refine mcl_w sz ln tx ft wd t cc an al op kk f sh wn hkk hf hsh nn hwn F1 ⟨hP, hD, hS⟩ hl ?_
  refine lv_istore_n (lv' := [(2, .int (nI wn)), (0, .ref (g 0)), (1, .int nn)]) hx hb dX3_close_56 rfl hl (by decide) rfl (fun ls hl => ?_)
  refine lv_aload_n hx hb dX3_close_57 rfl (lv_at hl 1 rfl) ?_
  refine va_get (D := D) (ci := 3) (v := .int (nI kk)) (C := RX3) (T := TX3) (N := 13) hx hb hts in_X3 hown hK hP 0 rfl rfl 4 (by decide) (hts _ q208) (fun _ h9 => h9) rfl dX3_close_58 ?_
  refine lv_iconst (v := nI 4) hx hb dX3_close_61 (by decide) ?_
  refine n_ge (tgt := 72) hx hb (by omega) (by omega) dX3_close_62 (by decide) (fun h4 => ?_) (fun h4 => ?_)
  ·
    refine lv_aload_n hx hb dX3_close_72 rfl (lv_at hl 1 rfl) ?_
    refine va_get (D := D) (ci := 3) (v := .int (nI kk)) (C := RX3) (T := TX3) (N := 13) hx hb hts in_X3 hown hK hP 0 rfl rfl 4 (by decide) (hts _ q208) (fun _ h9 => h9) rfl dX3_close_73 ?_
    refine lv_iconst (v := nI 3) hx hb dX3_close_76 (by decide) ?_
    refine n_le (tgt := 94) hx hb (by omega) (by omega) dX3_close_77 (by decide) (fun h3 => ?_) (fun h3 => ?_)
    ·
      omega
    ·
      refine lv_aload_n hx hb dX3_close_80 rfl (lv_at hl 1 rfl) ?_
      refine va_get (D := D) (ci := 3) (v := .int (nI sh)) (C := RX3) (T := TX3) (N := 13) hx hb hts in_X3 hown hK hP 0 rfl rfl 5 (by decide) (hts _ q209) (fun _ h9 => h9) rfl dX3_close_81 ?_
      refine lv_iload_n hx hb dX3_close_84 rfl (lv_at hl 0 rfl) ?_
      refine n_add hx hb dX3_close_85 ?_
      refine lv_sipush (v := nI 4096) hx hb dX3_close_86 (by decide) ?_
      refine n_le (tgt := 94) hx hb (by omega) (by omega) dX3_close_89 (by decide) (fun hle => ?_) (fun hle => ?_)
      ·
        refine lv_aload_n hx hb dX3_close_94 rfl (lv_at hl 1 rfl) ?_
        refine lv_iconst (v := nI 0) hx hb dX3_close_95 (by decide) ?_
        refine va_put (D := D) (ci := 3) (v := .int (nI 0)) (ty := .boolean) (C := RX3) (T := TX3) (N := 13) hx hb hts in_X3 tyX3 tyX3_ok nmX3 hown hK hP hD hS 0 rfl rfl 6 (by decide) (hts _ q210) (fun _ h9 => h9) rfl (by decide +kernel) rfl rfl (Nat.le_of_ble_eq_true rfl) dX3_close_96 (fun H locs hP hD hS => ?_)
        have hP : va_P D vwCl (wMd ca g sz (nI f) (nI kk) (nI sh) (nI 0) ln tx ft wd t cc an al) H := hP
        have hD : va_D A (wMd ca g sz (nI f) (nI kk) (nI sh) (nI 0) ln tx ft wd t cc an al) := hD
        refine lv_aload_n hx hb dX3_close_99 rfl (lv_at hl 1 rfl) ?_
        refine lv_aload_n hx hb dX3_close_100 rfl (lv_at hl 1 rfl) ?_
        refine va_get (D := D) (ci := 3) (v := .int (nI sh)) (C := RX3) (T := TX3) (N := 13) hx hb hts in_X3 hown hK hP 0 rfl rfl 5 (by decide) (hts _ q209) (fun _ h9 => h9) rfl dX3_close_101 ?_
        refine lv_iload_n hx hb dX3_close_104 rfl (lv_at hl 0 rfl) ?_
        refine cVv (wr := []) (As := [.int (nI sh), .int (nI wn)]) (rest := []) ⟨hx, hb, hml, hown, hts⟩ (m_show l D ca g sz (nI sh) (nI 0) ln tx ft wd t cc an al f kk sh wn hf hkk hsh h255) (cwV 2 hts (lw_V q278 q280 qs8 q15 q281) rfl rfl rfl (by decide +kernel) ⟨Nat.le_of_ble_eq_true rfl, Nat.le_of_ble_eq_true rfl⟩) hK hP hD hS hA [0, 1, 2, 3, 4, 5, 6, 7] [] rfl rfl (by decide) (by decide) (by decide) 0 3 rfl rfl rfl (fun _ _ _ _ _ _ => trivial) (fun _ _ _ => trivial) rfl hl.1 rfl (Nat.le_of_ble_eq_true rfl) dX3_close_105 ⟨Nat.le_of_ble_eq_true rfl, Nat.le_of_ble_eq_true rfl⟩ (fun ⟨wd, t, cc, an, al⟩ H locs hpo hP hD hS => ?_)
        have hP : va_P D vwCl (wMd ca g sz (nI f) (nI kk) (nI sh) (nI 0) ln tx ft wd t cc an al) H := hP
        have hD : va_D A (wMd ca g sz (nI f) (nI kk) (nI sh) (nI 0) ln tx ft wd t cc an al) := hD
        refine lv_aload_n hx hb dX3_close_108 rfl (lv_at hl 1 rfl) ?_
        refine lv_aload_n hx hb dX3_close_109 rfl (lv_at hl 1 rfl) ?_
        refine va_get (D := D) (ci := 3) (v := .int (nI sh)) (C := RX3) (T := TX3) (N := 13) hx hb hts in_X3 hown hK hP 0 rfl rfl 5 (by decide) (hts _ q209) (fun _ h9 => h9) rfl dX3_close_110 ?_
        refine lv_iload_n hx hb dX3_close_113 rfl (lv_at hl 0 rfl) ?_
        refine n_add hx hb dX3_close_114 ?_
        refine va_put (D := D) (ci := 3) (v := .int (nI (sh + wn))) (ty := .int) (C := RX3) (T := TX3) (N := 13) hx hb hts in_X3 tyX3 tyX3_ok nmX3 hown hK hP hD hS 0 rfl rfl 5 (by decide) (hts _ q209) (fun _ h9 => h9) rfl (by decide +kernel) rfl rfl (Nat.le_of_ble_eq_true rfl) dX3_close_115 (fun H locs hP hD hS => ?_)
        have hP : va_P D vwCl (wMd ca g sz (nI f) (nI kk) (nI (sh + wn)) (nI 0) ln tx ft wd t cc an al) H := hP
        have hD : va_D A (wMd ca g sz (nI f) (nI kk) (nI (sh + wn)) (nI 0) ln tx ft wd t cc an al) := hD
        refine lv_aload_n hx hb dX3_close_118 rfl (lv_at hl 1 rfl) ?_
        refine lv_iload_n hx hb dX3_close_119 rfl (lv_at hl 0 rfl) ?_
        refine va_put (D := D) (ci := 3) (v := .int (nI wn)) (ty := .int) (C := RX3) (T := TX3) (N := 13) hx hb hts in_X3 tyX3 tyX3_ok nmX3 hown hK hP hD hS 0 rfl rfl 11 (by decide) (hts _ q215) (fun _ h9 => h9) rfl (by decide +kernel) rfl rfl (Nat.le_of_ble_eq_true rfl) dX3_close_120 (fun H locs hP hD hS => ?_)
        have hP : va_P D vwCl (wMd ca g sz (nI f) (nI kk) (nI (sh + wn)) (nI 0) (nI wn) tx ft wd t cc an al) H := hP
        have hD : va_D A (wMd ca g sz (nI f) (nI kk) (nI (sh + wn)) (nI 0) (nI wn) tx ft wd t cc an al) := hD
        refine lv_iload_n hx hb dX3_close_123 rfl (lv_at hl 0 rfl) ?_
        exact iend hx hb hr hlk (wd, t, cc, an, al) ⟨rfl, hpo⟩ hP hK hD hS (Nat.le_refl _) (Nat.le_refl _) dX3_close_124
      ·
        omega
  ·
    refine lv_aload_n hx hb dX3_close_65 rfl (lv_at hl 1 rfl) ?_
    refine va_get (D := D) (ci := 3) (v := .int (nI op)) (C := RX3) (T := TX3) (N := 13) hx hb hts in_X3 hown hK hP 0 rfl rfl 6 (by decide) (hts _ q210) (fun _ h9 => h9) rfl dX3_close_66 ?_
    refine n_ifeq (tgt := 92) hx hb (by omega) dX3_close_69 (by decide) (fun ho => ?_) (fun ho => ?_)
    ·
      have := h1 h4
      omega
    ·
      refine lv_aload_n hx hb dX3_close_72 rfl (lv_at hl 1 rfl) ?_
      refine va_get (D := D) (ci := 3) (v := .int (nI kk)) (C := RX3) (T := TX3) (N := 13) hx hb hts in_X3 hown hK hP 0 rfl rfl 4 (by decide) (hts _ q208) (fun _ h9 => h9) rfl dX3_close_73 ?_
      refine lv_iconst (v := nI 3) hx hb dX3_close_76 (by decide) ?_
      refine n_le (tgt := 94) hx hb (by omega) (by omega) dX3_close_77 (by decide) (fun h3 => ?_) (fun h3 => ?_)
      ·
        refine lv_aload_n hx hb dX3_close_94 rfl (lv_at hl 1 rfl) ?_
        refine lv_iconst (v := nI 0) hx hb dX3_close_95 (by decide) ?_
        refine va_put (D := D) (ci := 3) (v := .int (nI 0)) (ty := .boolean) (C := RX3) (T := TX3) (N := 13) hx hb hts in_X3 tyX3 tyX3_ok nmX3 hown hK hP hD hS 0 rfl rfl 6 (by decide) (hts _ q210) (fun _ h9 => h9) rfl (by decide +kernel) rfl rfl (Nat.le_of_ble_eq_true rfl) dX3_close_96 (fun H locs hP hD hS => ?_)
        have hP : va_P D vwCl (wMd ca g sz (nI f) (nI kk) (nI sh) (nI 0) ln tx ft wd t cc an al) H := hP
        have hD : va_D A (wMd ca g sz (nI f) (nI kk) (nI sh) (nI 0) ln tx ft wd t cc an al) := hD
        refine lv_aload_n hx hb dX3_close_99 rfl (lv_at hl 1 rfl) ?_
        refine lv_aload_n hx hb dX3_close_100 rfl (lv_at hl 1 rfl) ?_
        refine va_get (D := D) (ci := 3) (v := .int (nI sh)) (C := RX3) (T := TX3) (N := 13) hx hb hts in_X3 hown hK hP 0 rfl rfl 5 (by decide) (hts _ q209) (fun _ h9 => h9) rfl dX3_close_101 ?_
        refine lv_iload_n hx hb dX3_close_104 rfl (lv_at hl 0 rfl) ?_
        refine cVv (wr := []) (As := [.int (nI sh), .int (nI wn)]) (rest := []) ⟨hx, hb, hml, hown, hts⟩ (m_show l D ca g sz (nI sh) (nI 0) ln tx ft wd t cc an al f kk sh wn hf hkk hsh h255) (cwV 2 hts (lw_V q278 q280 qs8 q15 q281) rfl rfl rfl (by decide +kernel) ⟨Nat.le_of_ble_eq_true rfl, Nat.le_of_ble_eq_true rfl⟩) hK hP hD hS hA [0, 1, 2, 3, 4, 5, 6, 7] [] rfl rfl (by decide) (by decide) (by decide) 0 3 rfl rfl rfl (fun _ _ _ _ _ _ => trivial) (fun _ _ _ => trivial) rfl hl.1 rfl (Nat.le_of_ble_eq_true rfl) dX3_close_105 ⟨Nat.le_of_ble_eq_true rfl, Nat.le_of_ble_eq_true rfl⟩ (fun ⟨wd, t, cc, an, al⟩ H locs hpo hP hD hS => ?_)
        have hP : va_P D vwCl (wMd ca g sz (nI f) (nI kk) (nI sh) (nI 0) ln tx ft wd t cc an al) H := hP
        have hD : va_D A (wMd ca g sz (nI f) (nI kk) (nI sh) (nI 0) ln tx ft wd t cc an al) := hD
        refine lv_aload_n hx hb dX3_close_108 rfl (lv_at hl 1 rfl) ?_
        refine lv_aload_n hx hb dX3_close_109 rfl (lv_at hl 1 rfl) ?_
        refine va_get (D := D) (ci := 3) (v := .int (nI sh)) (C := RX3) (T := TX3) (N := 13) hx hb hts in_X3 hown hK hP 0 rfl rfl 5 (by decide) (hts _ q209) (fun _ h9 => h9) rfl dX3_close_110 ?_
        refine lv_iload_n hx hb dX3_close_113 rfl (lv_at hl 0 rfl) ?_
        refine n_add hx hb dX3_close_114 ?_
        refine va_put (D := D) (ci := 3) (v := .int (nI (sh + wn))) (ty := .int) (C := RX3) (T := TX3) (N := 13) hx hb hts in_X3 tyX3 tyX3_ok nmX3 hown hK hP hD hS 0 rfl rfl 5 (by decide) (hts _ q209) (fun _ h9 => h9) rfl (by decide +kernel) rfl rfl (Nat.le_of_ble_eq_true rfl) dX3_close_115 (fun H locs hP hD hS => ?_)
        have hP : va_P D vwCl (wMd ca g sz (nI f) (nI kk) (nI (sh + wn)) (nI 0) ln tx ft wd t cc an al) H := hP
        have hD : va_D A (wMd ca g sz (nI f) (nI kk) (nI (sh + wn)) (nI 0) ln tx ft wd t cc an al) := hD
        refine lv_aload_n hx hb dX3_close_118 rfl (lv_at hl 1 rfl) ?_
        refine lv_iload_n hx hb dX3_close_119 rfl (lv_at hl 0 rfl) ?_
        refine va_put (D := D) (ci := 3) (v := .int (nI wn)) (ty := .int) (C := RX3) (T := TX3) (N := 13) hx hb hts in_X3 tyX3 tyX3_ok nmX3 hown hK hP hD hS 0 rfl rfl 11 (by decide) (hts _ q215) (fun _ h9 => h9) rfl (by decide +kernel) rfl rfl (Nat.le_of_ble_eq_true rfl) dX3_close_120 (fun H locs hP hD hS => ?_)
        have hP : va_P D vwCl (wMd ca g sz (nI f) (nI kk) (nI (sh + wn)) (nI 0) (nI wn) tx ft wd t cc an al) H := hP
        have hD : va_D A (wMd ca g sz (nI f) (nI kk) (nI (sh + wn)) (nI 0) (nI wn) tx ft wd t cc an al) := hD
        refine lv_iload_n hx hb dX3_close_123 rfl (lv_at hl 0 rfl) ?_
        exact iend hx hb hr hlk (wd, t, cc, an, al) ⟨rfl, hpo⟩ hP hK hD hS (Nat.le_refl _) (Nat.le_refl _) dX3_close_124
      ·
        omega
abbrev rmMi : Room := { frames := 1, cells := 7, slots := 8759, locals := 12 }
set_option maxHeartbeats 1000000 in
set_option maxRecDepth 100000 in
theorem m_minit (l : Launch) (D : va_G) (ca : Nat → ClassId) (g0 : Nat)  : MV l yX3_init cX3_init 1 rmMi D ca noX [.ref g0] ([(g0, .inr (3, [.null, .int 0, .null, .int 0, .int 0, .int 0, .int 0, .null, .null, .null, .null, .int 0, .null]))]) (S := Nat → Nat) (fun u => u 0 = g0) (fun u => wMd ca u 0 0 0 0 (nI 1) 0 (fun _ => 0) (fun _ => 0) (fun _ => 0) (fun _ => 0) (fun _ => 0) (fun _ => 0) (fun _ => 0)) 7 8759 := by
  refine MV.of (by decide) (Nat.le_of_ble_eq_true rfl) ?_
  intro p en s m below meth c A hx hb hr hml hlk hown hts hnm hA hP hK hD hS hX ls hl
  have hown : s.vm.findClass RX3 = some m.cls := hown
  have hl : lv_has ls 1 [(0, .ref g0)] := hl
  have hnm : meth.name = "<init>" := hnm
  refine lv_aload_n hx hb dX3_init_0 rfl (lv_at hl 0 rfl) ?_
  refine W.objInit hx hb hown (hts _ q203) (hts _ q23) (hts _ q24) rfl (by rw [hml]; exact hl.1) rfl dX3_init_1 (Nat.le_of_ble_eq_true rfl) (Nat.le_of_ble_eq_true rfl) ?_
  refine W.eq (g2 := F0 m 4 ls []) rfl ?_
  refine lv_aload_n hx hb dX3_init_4 rfl (lv_at hl 0 rfl) ?_
  refine lv_sipush (v := nI 4096) hx hb dX3_init_5 (by decide) ?_
  refine n_newa (atype := .byte) (ty := .byte) (N := 4096) (a0 := (4096, .inl (fun _ => 0))) hx hb (hts _ q54) rfl (fun _ h => h) hK hP hD hS hA 1 rfl (fun _ => rfl) (by decide) (by decide) (Nat.le_of_ble_eq_true rfl) (Nat.le_of_ble_eq_true rfl) dX3_init_8 (fun ad1 H hP hD hS => ?_)
  have hP : va_P D vwCl ([(g0, .inr (3, [.null, .int 0, .null, .int 0, .int 0, .int 0, .int 0, .null, .null, .null, .null, .int 0, .null])), (ad1, .inl (ca 1, 4096, .inl ((fun _ => 0))))]) H := hP
  have hD : va_D A ([(g0, .inr (3, [.null, .int 0, .null, .int 0, .int 0, .int 0, .int 0, .null, .null, .null, .null, .int 0, .null])), (ad1, .inl (ca 1, 4096, .inl ((fun _ => 0))))]) := hD
  refine va_putF (D := D) (ci := 3) (v := .ref ad1) (ty := (.array .byte)) (C := RX3) (T := TX3) (N := 13) hx hb hts in_X3 tyX3 tyX3_ok nmX3 hown hK hP hD hS 0 rfl rfl 0 (by decide) (hts _ q204) (fun _ h9 => h9) rfl hnm rfl (by decide +kernel) rfl rfl (Nat.le_of_ble_eq_true rfl) dX3_init_10 (fun H locs hP hD hS => ?_)
  have hP : va_P D vwCl ([(g0, .inr (3, [.ref ad1, .int 0, .null, .int 0, .int 0, .int 0, .int 0, .null, .null, .null, .null, .int 0, .null])), (ad1, .inl (ca 1, 4096, .inl ((fun _ => 0))))]) H := hP
  have hD : va_D A ([(g0, .inr (3, [.ref ad1, .int 0, .null, .int 0, .int 0, .int 0, .int 0, .null, .null, .null, .null, .int 0, .null])), (ad1, .inl (ca 1, 4096, .inl ((fun _ => 0))))]) := hD
  refine lv_aload_n hx hb dX3_init_13 rfl (lv_at hl 0 rfl) ?_
  refine lv_sipush (v := nI 2048) hx hb dX3_init_14 (by decide) ?_
  refine n_newa (atype := .byte) (ty := .byte) (N := 2048) (a0 := (2048, .inl (fun _ => 0))) hx hb (hts _ q54) rfl (fun _ h => h) hK hP hD hS hA 1 rfl (fun _ => rfl) (by decide) (by decide) (Nat.le_of_ble_eq_true rfl) (Nat.le_of_ble_eq_true rfl) dX3_init_17 (fun ad2 H hP hD hS => ?_)
  have hP : va_P D vwCl ([(g0, .inr (3, [.ref ad1, .int 0, .null, .int 0, .int 0, .int 0, .int 0, .null, .null, .null, .null, .int 0, .null])), (ad1, .inl (ca 1, 4096, .inl ((fun _ => 0)))), (ad2, .inl (ca 1, 2048, .inl ((fun _ => 0))))]) H := hP
  have hD : va_D A ([(g0, .inr (3, [.ref ad1, .int 0, .null, .int 0, .int 0, .int 0, .int 0, .null, .null, .null, .null, .int 0, .null])), (ad1, .inl (ca 1, 4096, .inl ((fun _ => 0)))), (ad2, .inl (ca 1, 2048, .inl ((fun _ => 0))))]) := hD
  refine va_putF (D := D) (ci := 3) (v := .ref ad2) (ty := (.array .byte)) (C := RX3) (T := TX3) (N := 13) hx hb hts in_X3 tyX3 tyX3_ok nmX3 hown hK hP hD hS 0 rfl rfl 2 (by decide) (hts _ q206) (fun _ h9 => h9) rfl hnm rfl (by decide +kernel) rfl rfl (Nat.le_of_ble_eq_true rfl) dX3_init_19 (fun H locs hP hD hS => ?_)
  have hP : va_P D vwCl ([(g0, .inr (3, [.ref ad1, .int 0, .ref ad2, .int 0, .int 0, .int 0, .int 0, .null, .null, .null, .null, .int 0, .null])), (ad1, .inl (ca 1, 4096, .inl ((fun _ => 0)))), (ad2, .inl (ca 1, 2048, .inl ((fun _ => 0))))]) H := hP
  have hD : va_D A ([(g0, .inr (3, [.ref ad1, .int 0, .ref ad2, .int 0, .int 0, .int 0, .int 0, .null, .null, .null, .null, .int 0, .null])), (ad1, .inl (ca 1, 4096, .inl ((fun _ => 0)))), (ad2, .inl (ca 1, 2048, .inl ((fun _ => 0))))]) := hD
  refine lv_aload_n hx hb dX3_init_22 rfl (lv_at hl 0 rfl) ?_
  refine lv_iconst (v := nI 1) hx hb dX3_init_23 (by decide) ?_
  refine va_put (D := D) (ci := 3) (v := .int (nI 1)) (ty := .boolean) (C := RX3) (T := TX3) (N := 13) hx hb hts in_X3 tyX3 tyX3_ok nmX3 hown hK hP hD hS 0 rfl rfl 6 (by decide) (hts _ q210) (fun _ h9 => h9) rfl (by decide +kernel) rfl rfl (Nat.le_of_ble_eq_true rfl) dX3_init_24 (fun H locs hP hD hS => ?_)
  have hP : va_P D vwCl ([(g0, .inr (3, [.ref ad1, .int 0, .ref ad2, .int 0, .int 0, .int 0, .int (nI 1), .null, .null, .null, .null, .int 0, .null])), (ad1, .inl (ca 1, 4096, .inl ((fun _ => 0)))), (ad2, .inl (ca 1, 2048, .inl ((fun _ => 0))))]) H := hP
  have hD : va_D A ([(g0, .inr (3, [.ref ad1, .int 0, .ref ad2, .int 0, .int 0, .int 0, .int (nI 1), .null, .null, .null, .null, .int 0, .null])), (ad1, .inl (ca 1, 4096, .inl ((fun _ => 0)))), (ad2, .inl (ca 1, 2048, .inl ((fun _ => 0))))]) := hD
  refine lv_aload_n hx hb dX3_init_27 rfl (lv_at hl 0 rfl) ?_
  refine lv_bipush (v := nI 25) hx hb dX3_init_28 (by decide) ?_
  refine n_newa (atype := .long) (ty := .long) (N := 25) (a0 := (25, .inr (.inl (fun _ => 0)))) hx hb (hts _ q244) rfl (fun _ h => h) hK hP hD hS hA 2 rfl (fun _ => rfl) (by decide) (by decide) (Nat.le_of_ble_eq_true rfl) (Nat.le_of_ble_eq_true rfl) dX3_init_30 (fun ad3 H hP hD hS => ?_)
  have hP : va_P D vwCl ([(g0, .inr (3, [.ref ad1, .int 0, .ref ad2, .int 0, .int 0, .int 0, .int (nI 1), .null, .null, .null, .null, .int 0, .null])), (ad1, .inl (ca 1, 4096, .inl ((fun _ => 0)))), (ad2, .inl (ca 1, 2048, .inl ((fun _ => 0)))), (ad3, .inl (ca 2, 25, .inr (.inl ((fun _ => 0)))))]) H := hP
  have hD : va_D A ([(g0, .inr (3, [.ref ad1, .int 0, .ref ad2, .int 0, .int 0, .int 0, .int (nI 1), .null, .null, .null, .null, .int 0, .null])), (ad1, .inl (ca 1, 4096, .inl ((fun _ => 0)))), (ad2, .inl (ca 1, 2048, .inl ((fun _ => 0)))), (ad3, .inl (ca 2, 25, .inr (.inl ((fun _ => 0)))))]) := hD
  refine va_putF (D := D) (ci := 3) (v := .ref ad3) (ty := (.array .long)) (C := RX3) (T := TX3) (N := 13) hx hb hts in_X3 tyX3 tyX3_ok nmX3 hown hK hP hD hS 0 rfl rfl 7 (by decide) (hts _ q211) (fun _ h9 => h9) rfl hnm rfl (by decide +kernel) rfl rfl (Nat.le_of_ble_eq_true rfl) dX3_init_32 (fun H locs hP hD hS => ?_)
  have hP : va_P D vwCl ([(g0, .inr (3, [.ref ad1, .int 0, .ref ad2, .int 0, .int 0, .int 0, .int (nI 1), .ref ad3, .null, .null, .null, .int 0, .null])), (ad1, .inl (ca 1, 4096, .inl ((fun _ => 0)))), (ad2, .inl (ca 1, 2048, .inl ((fun _ => 0)))), (ad3, .inl (ca 2, 25, .inr (.inl ((fun _ => 0)))))]) H := hP
  have hD : va_D A ([(g0, .inr (3, [.ref ad1, .int 0, .ref ad2, .int 0, .int 0, .int 0, .int (nI 1), .ref ad3, .null, .null, .null, .int 0, .null])), (ad1, .inl (ca 1, 4096, .inl ((fun _ => 0)))), (ad2, .inl (ca 1, 2048, .inl ((fun _ => 0)))), (ad3, .inl (ca 2, 25, .inr (.inl ((fun _ => 0)))))]) := hD
  refine lv_aload_n hx hb dX3_init_35 rfl (lv_at hl 0 rfl) ?_
  refine lv_bipush (v := nI 25) hx hb dX3_init_36 (by decide) ?_
  refine n_newa (atype := .long) (ty := .long) (N := 25) (a0 := (25, .inr (.inl (fun _ => 0)))) hx hb (hts _ q244) rfl (fun _ h => h) hK hP hD hS hA 2 rfl (fun _ => rfl) (by decide) (by decide) (Nat.le_of_ble_eq_true rfl) (Nat.le_of_ble_eq_true rfl) dX3_init_38 (fun ad4 H hP hD hS => ?_)
  have hP : va_P D vwCl ([(g0, .inr (3, [.ref ad1, .int 0, .ref ad2, .int 0, .int 0, .int 0, .int (nI 1), .ref ad3, .null, .null, .null, .int 0, .null])), (ad1, .inl (ca 1, 4096, .inl ((fun _ => 0)))), (ad2, .inl (ca 1, 2048, .inl ((fun _ => 0)))), (ad3, .inl (ca 2, 25, .inr (.inl ((fun _ => 0))))), (ad4, .inl (ca 2, 25, .inr (.inl ((fun _ => 0)))))]) H := hP
  have hD : va_D A ([(g0, .inr (3, [.ref ad1, .int 0, .ref ad2, .int 0, .int 0, .int 0, .int (nI 1), .ref ad3, .null, .null, .null, .int 0, .null])), (ad1, .inl (ca 1, 4096, .inl ((fun _ => 0)))), (ad2, .inl (ca 1, 2048, .inl ((fun _ => 0)))), (ad3, .inl (ca 2, 25, .inr (.inl ((fun _ => 0))))), (ad4, .inl (ca 2, 25, .inr (.inl ((fun _ => 0)))))]) := hD
  refine va_putF (D := D) (ci := 3) (v := .ref ad4) (ty := (.array .long)) (C := RX3) (T := TX3) (N := 13) hx hb hts in_X3 tyX3 tyX3_ok nmX3 hown hK hP hD hS 0 rfl rfl 8 (by decide) (hts _ q212) (fun _ h9 => h9) rfl hnm rfl (by decide +kernel) rfl rfl (Nat.le_of_ble_eq_true rfl) dX3_init_40 (fun H locs hP hD hS => ?_)
  have hP : va_P D vwCl ([(g0, .inr (3, [.ref ad1, .int 0, .ref ad2, .int 0, .int 0, .int 0, .int (nI 1), .ref ad3, .ref ad4, .null, .null, .int 0, .null])), (ad1, .inl (ca 1, 4096, .inl ((fun _ => 0)))), (ad2, .inl (ca 1, 2048, .inl ((fun _ => 0)))), (ad3, .inl (ca 2, 25, .inr (.inl ((fun _ => 0))))), (ad4, .inl (ca 2, 25, .inr (.inl ((fun _ => 0)))))]) H := hP
  have hD : va_D A ([(g0, .inr (3, [.ref ad1, .int 0, .ref ad2, .int 0, .int 0, .int 0, .int (nI 1), .ref ad3, .ref ad4, .null, .null, .int 0, .null])), (ad1, .inl (ca 1, 4096, .inl ((fun _ => 0)))), (ad2, .inl (ca 1, 2048, .inl ((fun _ => 0)))), (ad3, .inl (ca 2, 25, .inr (.inl ((fun _ => 0))))), (ad4, .inl (ca 2, 25, .inr (.inl ((fun _ => 0)))))]) := hD
  refine lv_aload_n hx hb dX3_init_43 rfl (lv_at hl 0 rfl) ?_
  refine lv_iconst (v := nI 5) hx hb dX3_init_44 (by decide) ?_
  refine n_newa (atype := .long) (ty := .long) (N := 5) (a0 := (5, .inr (.inl (fun _ => 0)))) hx hb (hts _ q244) rfl (fun _ h => h) hK hP hD hS hA 2 rfl (fun _ => rfl) (by decide) (by decide) (Nat.le_of_ble_eq_true rfl) (Nat.le_of_ble_eq_true rfl) dX3_init_45 (fun ad5 H hP hD hS => ?_)
  have hP : va_P D vwCl ([(g0, .inr (3, [.ref ad1, .int 0, .ref ad2, .int 0, .int 0, .int 0, .int (nI 1), .ref ad3, .ref ad4, .null, .null, .int 0, .null])), (ad1, .inl (ca 1, 4096, .inl ((fun _ => 0)))), (ad2, .inl (ca 1, 2048, .inl ((fun _ => 0)))), (ad3, .inl (ca 2, 25, .inr (.inl ((fun _ => 0))))), (ad4, .inl (ca 2, 25, .inr (.inl ((fun _ => 0))))), (ad5, .inl (ca 2, 5, .inr (.inl ((fun _ => 0)))))]) H := hP
  have hD : va_D A ([(g0, .inr (3, [.ref ad1, .int 0, .ref ad2, .int 0, .int 0, .int 0, .int (nI 1), .ref ad3, .ref ad4, .null, .null, .int 0, .null])), (ad1, .inl (ca 1, 4096, .inl ((fun _ => 0)))), (ad2, .inl (ca 1, 2048, .inl ((fun _ => 0)))), (ad3, .inl (ca 2, 25, .inr (.inl ((fun _ => 0))))), (ad4, .inl (ca 2, 25, .inr (.inl ((fun _ => 0))))), (ad5, .inl (ca 2, 5, .inr (.inl ((fun _ => 0)))))]) := hD
  refine va_putF (D := D) (ci := 3) (v := .ref ad5) (ty := (.array .long)) (C := RX3) (T := TX3) (N := 13) hx hb hts in_X3 tyX3 tyX3_ok nmX3 hown hK hP hD hS 0 rfl rfl 9 (by decide) (hts _ q213) (fun _ h9 => h9) rfl hnm rfl (by decide +kernel) rfl rfl (Nat.le_of_ble_eq_true rfl) dX3_init_47 (fun H locs hP hD hS => ?_)
  have hP : va_P D vwCl ([(g0, .inr (3, [.ref ad1, .int 0, .ref ad2, .int 0, .int 0, .int 0, .int (nI 1), .ref ad3, .ref ad4, .ref ad5, .null, .int 0, .null])), (ad1, .inl (ca 1, 4096, .inl ((fun _ => 0)))), (ad2, .inl (ca 1, 2048, .inl ((fun _ => 0)))), (ad3, .inl (ca 2, 25, .inr (.inl ((fun _ => 0))))), (ad4, .inl (ca 2, 25, .inr (.inl ((fun _ => 0))))), (ad5, .inl (ca 2, 5, .inr (.inl ((fun _ => 0)))))]) H := hP
  have hD : va_D A ([(g0, .inr (3, [.ref ad1, .int 0, .ref ad2, .int 0, .int 0, .int 0, .int (nI 1), .ref ad3, .ref ad4, .ref ad5, .null, .int 0, .null])), (ad1, .inl (ca 1, 4096, .inl ((fun _ => 0)))), (ad2, .inl (ca 1, 2048, .inl ((fun _ => 0)))), (ad3, .inl (ca 2, 25, .inr (.inl ((fun _ => 0))))), (ad4, .inl (ca 2, 25, .inr (.inl ((fun _ => 0))))), (ad5, .inl (ca 2, 5, .inr (.inl ((fun _ => 0)))))]) := hD
  refine lv_aload_n hx hb dX3_init_50 rfl (lv_at hl 0 rfl) ?_
  refine lv_sipush (v := nI 256) hx hb dX3_init_51 (by decide) ?_
  refine n_newa (atype := .int) (ty := .int) (N := 256) (a0 := (256, .inl (fun _ => 0))) hx hb (hts _ q55) rfl (fun _ h => h) hK hP hD hS hA 0 rfl (fun _ => rfl) (by decide) (by decide) (Nat.le_of_ble_eq_true rfl) (Nat.le_of_ble_eq_true rfl) dX3_init_54 (fun ad6 H hP hD hS => ?_)
  have hP : va_P D vwCl ([(g0, .inr (3, [.ref ad1, .int 0, .ref ad2, .int 0, .int 0, .int 0, .int (nI 1), .ref ad3, .ref ad4, .ref ad5, .null, .int 0, .null])), (ad1, .inl (ca 1, 4096, .inl ((fun _ => 0)))), (ad2, .inl (ca 1, 2048, .inl ((fun _ => 0)))), (ad3, .inl (ca 2, 25, .inr (.inl ((fun _ => 0))))), (ad4, .inl (ca 2, 25, .inr (.inl ((fun _ => 0))))), (ad5, .inl (ca 2, 5, .inr (.inl ((fun _ => 0))))), (ad6, .inl (ca 0, 256, .inl ((fun _ => 0))))]) H := hP
  have hD : va_D A ([(g0, .inr (3, [.ref ad1, .int 0, .ref ad2, .int 0, .int 0, .int 0, .int (nI 1), .ref ad3, .ref ad4, .ref ad5, .null, .int 0, .null])), (ad1, .inl (ca 1, 4096, .inl ((fun _ => 0)))), (ad2, .inl (ca 1, 2048, .inl ((fun _ => 0)))), (ad3, .inl (ca 2, 25, .inr (.inl ((fun _ => 0))))), (ad4, .inl (ca 2, 25, .inr (.inl ((fun _ => 0))))), (ad5, .inl (ca 2, 5, .inr (.inl ((fun _ => 0))))), (ad6, .inl (ca 0, 256, .inl ((fun _ => 0))))]) := hD
  refine va_putF (D := D) (ci := 3) (v := .ref ad6) (ty := (.array .int)) (C := RX3) (T := TX3) (N := 13) hx hb hts in_X3 tyX3 tyX3_ok nmX3 hown hK hP hD hS 0 rfl rfl 10 (by decide) (hts _ q214) (fun _ h9 => h9) rfl hnm rfl (by decide +kernel) rfl rfl (Nat.le_of_ble_eq_true rfl) dX3_init_56 (fun H locs hP hD hS => ?_)
  have hP : va_P D vwCl ([(g0, .inr (3, [.ref ad1, .int 0, .ref ad2, .int 0, .int 0, .int 0, .int (nI 1), .ref ad3, .ref ad4, .ref ad5, .ref ad6, .int 0, .null])), (ad1, .inl (ca 1, 4096, .inl ((fun _ => 0)))), (ad2, .inl (ca 1, 2048, .inl ((fun _ => 0)))), (ad3, .inl (ca 2, 25, .inr (.inl ((fun _ => 0))))), (ad4, .inl (ca 2, 25, .inr (.inl ((fun _ => 0))))), (ad5, .inl (ca 2, 5, .inr (.inl ((fun _ => 0))))), (ad6, .inl (ca 0, 256, .inl ((fun _ => 0))))]) H := hP
  have hD : va_D A ([(g0, .inr (3, [.ref ad1, .int 0, .ref ad2, .int 0, .int 0, .int 0, .int (nI 1), .ref ad3, .ref ad4, .ref ad5, .ref ad6, .int 0, .null])), (ad1, .inl (ca 1, 4096, .inl ((fun _ => 0)))), (ad2, .inl (ca 1, 2048, .inl ((fun _ => 0)))), (ad3, .inl (ca 2, 25, .inr (.inl ((fun _ => 0))))), (ad4, .inl (ca 2, 25, .inr (.inl ((fun _ => 0))))), (ad5, .inl (ca 2, 5, .inr (.inl ((fun _ => 0))))), (ad6, .inl (ca 0, 256, .inl ((fun _ => 0))))]) := hD
  refine lv_aload_n hx hb dX3_init_59 rfl (lv_at hl 0 rfl) ?_
  refine lv_sipush (v := nI 2304) hx hb dX3_init_60 (by decide) ?_
  refine n_newa (atype := .byte) (ty := .byte) (N := 2304) (a0 := (2304, .inl (fun _ => 0))) hx hb (hts _ q54) rfl (fun _ h => h) hK hP hD hS hA 1 rfl (fun _ => rfl) (by decide) (by decide) (Nat.le_of_ble_eq_true rfl) (Nat.le_of_ble_eq_true rfl) dX3_init_63 (fun ad7 H hP hD hS => ?_)
  have hP : va_P D vwCl ([(g0, .inr (3, [.ref ad1, .int 0, .ref ad2, .int 0, .int 0, .int 0, .int (nI 1), .ref ad3, .ref ad4, .ref ad5, .ref ad6, .int 0, .null])), (ad1, .inl (ca 1, 4096, .inl ((fun _ => 0)))), (ad2, .inl (ca 1, 2048, .inl ((fun _ => 0)))), (ad3, .inl (ca 2, 25, .inr (.inl ((fun _ => 0))))), (ad4, .inl (ca 2, 25, .inr (.inl ((fun _ => 0))))), (ad5, .inl (ca 2, 5, .inr (.inl ((fun _ => 0))))), (ad6, .inl (ca 0, 256, .inl ((fun _ => 0)))), (ad7, .inl (ca 1, 2304, .inl ((fun _ => 0))))]) H := hP
  have hD : va_D A ([(g0, .inr (3, [.ref ad1, .int 0, .ref ad2, .int 0, .int 0, .int 0, .int (nI 1), .ref ad3, .ref ad4, .ref ad5, .ref ad6, .int 0, .null])), (ad1, .inl (ca 1, 4096, .inl ((fun _ => 0)))), (ad2, .inl (ca 1, 2048, .inl ((fun _ => 0)))), (ad3, .inl (ca 2, 25, .inr (.inl ((fun _ => 0))))), (ad4, .inl (ca 2, 25, .inr (.inl ((fun _ => 0))))), (ad5, .inl (ca 2, 5, .inr (.inl ((fun _ => 0))))), (ad6, .inl (ca 0, 256, .inl ((fun _ => 0)))), (ad7, .inl (ca 1, 2304, .inl ((fun _ => 0))))]) := hD
  refine va_putF (D := D) (ci := 3) (v := .ref ad7) (ty := (.array .byte)) (C := RX3) (T := TX3) (N := 13) hx hb hts in_X3 tyX3 tyX3_ok nmX3 hown hK hP hD hS 0 rfl rfl 12 (by decide) (hts _ q216) (fun _ h9 => h9) rfl hnm rfl (by decide +kernel) rfl rfl (Nat.le_of_ble_eq_true rfl) dX3_init_65 (fun H locs hP hD hS => ?_)
  have hP : va_P D vwCl ([(g0, .inr (3, [.ref ad1, .int 0, .ref ad2, .int 0, .int 0, .int 0, .int (nI 1), .ref ad3, .ref ad4, .ref ad5, .ref ad6, .int 0, .ref ad7])), (ad1, .inl (ca 1, 4096, .inl ((fun _ => 0)))), (ad2, .inl (ca 1, 2048, .inl ((fun _ => 0)))), (ad3, .inl (ca 2, 25, .inr (.inl ((fun _ => 0))))), (ad4, .inl (ca 2, 25, .inr (.inl ((fun _ => 0))))), (ad5, .inl (ca 2, 5, .inr (.inl ((fun _ => 0))))), (ad6, .inl (ca 0, 256, .inl ((fun _ => 0)))), (ad7, .inl (ca 1, 2304, .inl ((fun _ => 0))))]) H := hP
  have hD : va_D A ([(g0, .inr (3, [.ref ad1, .int 0, .ref ad2, .int 0, .int 0, .int 0, .int (nI 1), .ref ad3, .ref ad4, .ref ad5, .ref ad6, .int 0, .ref ad7])), (ad1, .inl (ca 1, 4096, .inl ((fun _ => 0)))), (ad2, .inl (ca 1, 2048, .inl ((fun _ => 0)))), (ad3, .inl (ca 2, 25, .inr (.inl ((fun _ => 0))))), (ad4, .inl (ca 2, 25, .inr (.inl ((fun _ => 0))))), (ad5, .inl (ca 2, 5, .inr (.inl ((fun _ => 0))))), (ad6, .inl (ca 0, 256, .inl ((fun _ => 0)))), (ad7, .inl (ca 1, 2304, .inl ((fun _ => 0))))]) := hD
  exact vend hx hb hr hlk (fun k => [g0, ad1, ad2, ad3, ad4, ad5, ad6, ad7].getD k 0) rfl hP hK hD hS (Nat.le_of_ble_eq_true rfl) (Nat.le_of_ble_eq_true rfl) dX3_init_68
end
section
/-! what ties the desk to the reference, between two calls of the law -/
def ZZ (kk : Nat) (ft : Nat → Int32) (f : Nat) : Nat → Int64 := finL (RT kk) (absL (RT kk) ft f) (f % RT kk) (nI (if kk < 4 then 6 else 31))
def Inv (tx kp : Nat → Int32) (ln kk f gn kl co : Nat) (e o : Nat → Int32) (a : Nat) (mtx ft an : Nat → Int32) : Prop :=
  ln ≤ 4096 ∧ kk < 6 ∧ f ≤ 2048 ∧ gn ≤ 4096 ∧ kl ≤ 255 ∧ co ≤ 1 ∧ (∀ q, q < ln → tx q &&& nI 255 = mtx q &&& nI 255) ∧ (∀ q, q < kl → kp q &&& nI 255 = an q) ∧
  (co = 0 → gn = 0 ∧ a = f % RT kk ∧ Rel (absL (RT kk) ft f) e o) ∧ (co = 1 → a ≤ RT kk ∧ ∃ k, RT kk * k + a = gn ∧ Rel (zzL (ZZ kk ft f) k) e o)
def wLaw (ca : Nat → ClassId) (h g : Nat → Nat) (tx kp : Nat → Int32) (ln kk f gn kl co : Nat) (e o me mo se so : Nat → Int32) (a : Nat) (mtx ft : Nat → Int32) (wd t cc : Nat → Int64) (an al : Nat → Int32) : va_W :=
  wDk ca h tx kp (nI ln) (nI kk) (nI f) (nI gn) (nI kl) (nI co) e o me mo se so (nI (RT kk)) (nI a) ++ wMd ca g (nI ln) (nI f) (nI kk) (nI gn) (nI (1 - co)) (nI kl) mtx ft wd t cc an al
/-- a heap between two calls of the law -/
def LSt (D : va_G) (ca : Nat → ClassId) (h g : Nat → Nat) (A : Nat → Prop) (s : State) (H : Heap) (locs : List Loc) : Prop :=
  ∃ (tx kp : Nat → Int32) (ln kk f gn kl co : Nat) (e o me mo se so : Nat → Int32) (a : Nat) (mtx ft : Nat → Int32) (wd t cc : Nat → Int64) (an al : Nat → Int32), Inv tx kp ln kk f gn kl co e o a mtx ft an ∧ Sta D A s (wLaw ca h g tx kp ln kk f gn kl co e o me mo se so a mtx ft wd t cc an al) H locs
theorem out_255 (r : Nat) (z : Nat → Int64) (q : Nat) : outB r z q &&& nI 255 = outB r z q := by
  unfold outB obL
  apply b_ext
  intro j _
  rw [b_and, b_and]
  cases bt (nI 255) j <;> simp
theorem add4_eq (t : Nat → Int32) (n0 : Nat) (w : Int32) (q : Nat) : add4 t n0 w q = if n0 ≤ q ∧ q < n0 + 4 then byt w (24 - 8 * (q - n0)) else t q := by
  show (if q = n0 + 1 + 1 + 1 then byt w 0 else if q = n0 + 1 + 1 then byt w 8 else if q = n0 + 1 then byt w 16 else if q = n0 then byt w 24 else t q) = _
  by_cases h3 : q = n0 + 1 + 1 + 1
  · rw [if_pos h3, if_pos (by omega), show 24 - 8 * (q - n0) = 0 by omega]
  rw [if_neg h3]
  by_cases h2 : q = n0 + 1 + 1
  · rw [if_pos h2, if_pos (by omega), show 24 - 8 * (q - n0) = 8 by omega]
  rw [if_neg h2]
  by_cases h1 : q = n0 + 1
  · rw [if_pos h1, if_pos (by omega), show 24 - 8 * (q - n0) = 16 by omega]
  rw [if_neg h1]
  by_cases h0 : q = n0
  · rw [if_pos h0, if_pos (by omega), show 24 - 8 * (q - n0) = 24 by omega]
  rw [if_neg h0, if_neg (by omega)]
theorem shr_255 (w : Int32) (k : Nat) (hk : k ≤ 24) : (w >>> (nI k &&& 31)) &&& nI 255 = (w.toUInt32 >>> ((nI k).toUInt32 &&& Int32.toUInt32 31)).toInt32 &&& nI 255 := by
  apply b_ext
  intro j hj
  have f255 : ∀ k, bt (nI 255) k = decide (k < 8) := b_255
  rw [b_and, b_and, f255, b_ushr k (by omega), b_sshr k (by omega) w hj]
  by_cases h : j < 8
  · rw [if_pos (by omega)]
  · rw [decide_eq_false h, Bool.and_false, Bool.and_false]
theorem byt_255 (w : Int32) (k : Nat) (hk : k ≤ 24) : byt w k &&& nI 255 = (w.toUInt32 >>> ((nI k).toUInt32 &&& Int32.toUInt32 31)).toInt32 &&& nI 255 := (bb_255 _).trans (shr_255 w k hk)
theorem putT_eq (t : Nat → Int32) (n0 : Nat) (a b c d : Int32) (j : Nat) (hj : j < 16) : putT t n0 a b c d (n0 + j) = byt (wsel a b c d j) (24 - 8 * (j % 4)) := by
  unfold putT wsel
  rw [add4_eq, add4_eq, add4_eq, add4_eq]
  by_cases h4 : j < 4
  · rw [if_neg (by omega), if_neg (by omega), if_neg (by omega), if_pos (by omega), if_pos h4, show n0 + j - n0 = j % 4 by omega]
  rw [if_neg h4]
  by_cases h8 : j < 8
  · rw [if_neg (by omega), if_neg (by omega), if_pos (by omega), if_pos h8, show n0 + j - (n0 + 1 + 1 + 1 + 1) = j % 4 by omega]
  rw [if_neg h8]
  by_cases h12 : j < 12
  · rw [if_neg (by omega), if_pos (by omega), if_pos h12, show n0 + j - (n0 + 1 + 1 + 1 + 1 + 1 + 1 + 1 + 1) = j % 4 by omega]
  rw [if_neg h12, if_pos (by omega), show n0 + j - (n0 + 1 + 1 + 1 + 1 + 1 + 1 + 1 + 1 + 1 + 1 + 1 + 1) = j % 4 by omega]
theorem putT_old (t : Nat → Int32) (n0 : Nat) (a b c d : Int32) (q : Nat) (hq : q < n0) : putT t n0 a b c d q = t q := by
  unfold putT
  rw [add4_eq, add4_eq, add4_eq, add4_eq, if_neg (by omega), if_neg (by omega), if_neg (by omega), if_neg (by omega)]
theorem put_eq {tx mtx : Nat → Int32} {n0 : Nat} (h : ∀ q, q < n0 → tx q &&& nI 255 = mtx q &&& nI 255) (a b c d : Int32) : ∀ q, q < n0 + 16 → putT tx n0 a b c d q &&& nI 255 = rng n0 16 (fun q => mby a b c d (q - n0)) mtx q &&& nI 255 := by
  intro q hq
  rcases Nat.lt_or_ge q n0 with h1 | h1
  · rw [putT_old _ _ _ _ _ _ _ h1, rng_out (by omega)]
    exact h q h1
  · obtain ⟨j, rfl⟩ : ∃ j, q = n0 + j := ⟨q - n0, by omega⟩
    rw [putT_eq _ _ _ _ _ _ _ (by omega), rng_in (by omega)]
    show _ = mby a b c d (n0 + j - n0) &&& nI 255
    rw [Nat.add_sub_cancel_left, byt_255 _ _ (by omega)]
    exact (bb_255 _).symm
theorem law_go {L j : Nat} (hL : L ≤ 320) (hj : j ≤ 64) (h : ¬ (nI L - nI 5 < nI (5 * j))) : 5 * j + 5 ≤ L := by
  rw [Int32.lt_iff_toInt_lt, pk_sub_toInt (by omega) (by omega), nI_toInt (by omega)] at h
  omega
theorem Inv.start : Inv (fun _ => 0) (fun _ => 0) 0 0 0 0 0 0 (fun _ => 0) (fun _ => 0) 0 (fun _ => 0) (fun _ => 0) (fun _ => 0) :=
  ⟨by decide, by decide, by decide, by decide, by decide, by decide, fun _ h => absurd h (by omega), fun _ h => absurd h (by omega), fun _ => ⟨rfl, by decide, Rel.zero⟩, fun h => absurd h (by decide)⟩
/-- put -/
theorem Inv.put {tx kp : Nat → Int32} {ln kk f gn kl co : Nat} {e o : Nat → Int32} {a : Nat} {mtx ft an : Nat → Int32} (I : Inv tx kp ln kk f gn kl co e o a mtx ft an) (h16 : ln ≤ 4080) (b1 b2 b3 b4 : Int32) : Inv (putT tx ln b1 b2 b3 b4) kp (ln + 16) kk f gn kl co e o a (rng ln 16 (fun q => mby b1 b2 b3 b4 (q - ln)) mtx) ft an := by
  obtain ⟨i1, i2, i3, i4, i5, i6, i7, i8, i9, i10⟩ := I
  exact ⟨by omega, i2, i3, i4, i5, i6, put_eq i7 b1 b2 b3 b4, i8, i9, i10⟩
/-- trim -/
theorem Inv.trim {tx kp : Nat → Int32} {ln kk f gn kl co : Nat} {e o : Nat → Int32} {a : Nat} {mtx ft an : Nat → Int32} (I : Inv tx kp ln kk f gn kl co e o a mtx ft an) (x : Nat) : Inv tx kp (x % (ln + 1)) kk f gn kl co e o a mtx ft an := by
  obtain ⟨i1, i2, i3, i4, i5, i6, i7, i8, i9, i10⟩ := I
  have h := Nat.mod_lt x (show 0 < ln + 1 by omega)
  exact ⟨by omega, i2, i3, i4, i5, i6, fun q hq => i7 q (by omega), i8, i9, i10⟩
/-- begin -/
theorem Inv.begin {tx kp : Nat → Int32} {ln kk f gn kl co : Nat} {e o : Nat → Int32} {a : Nat} {mtx ft an : Nat → Int32} (I : Inv tx kp ln kk f gn kl co e o a mtx ft an) (x : Nat) : Inv tx kp ln (x % 6) 0 0 0 0 (fun _ => 0) (fun _ => 0) 0 mtx ft an := by
  obtain ⟨i1, i2, i3, i4, i5, i6, i7, i8, i9, i10⟩ := I
  exact ⟨i1, Nat.mod_lt _ (by decide), by omega, by omega, by omega, by omega, i7, fun _ h => absurd h (by omega), fun _ => ⟨rfl, (Nat.zero_mod _).symm, Rel.zero⟩, fun h => absurd h (by decide)⟩
/-- feed: the ghost is the reference's new array -/
theorem Inv.feed {tx kp : Nat → Int32} {ln kk f gn kl co : Nat} {e o : Nat → Int32} {a : Nat} {mtx ft an : Nat → Int32} (I : Inv tx kp ln kk f gn kl co e o a mtx ft an) (hco : co = 0) (fr mn : Nat) (hfm : fr + mn ≤ ln) :
    (∀ q, q < mn → rng f mn (fun q => (mtx (fr + (q - f))).toInt8.toInt32) ft (f + q) &&& nI 255 = tx (fr + q) &&& nI 255) ∧ Rel (absL (RT kk) (rng f mn (fun q => (mtx (fr + (q - f))).toInt8.toInt32) ft) f) e o := by
  obtain ⟨i1, i2, i3, i4, i5, i6, i7, i8, i9, i10⟩ := I
  constructor
  · intro q hq
    rw [rng_in (by omega)]
    show (mtx (fr + (f + q - f))).toInt8.toInt32 &&& nI 255 = _
    rw [Nat.add_sub_cancel_left, i7 (fr + q) (by omega)]
    exact bp_b _
  · rw [absL_congr (t' := ft) f (fun i hi => by rw [rng_out (by omega)])]
    exact (i9 hco).2.2
theorem Inv.fed {tx kp : Nat → Int32} {ln kk f gn kl co : Nat} {e o : Nat → Int32} {a : Nat} {mtx ft an : Nat → Int32} (I : Inv tx kp ln kk f gn kl co e o a mtx ft an) (hco : co = 0) {mn : Nat} (hok : f + mn ≤ 2048) {ft' e' o' : Nat → Int32} (hrel : Rel (absL (RT kk) ft' (f + mn)) e' o') : Inv tx kp ln kk (f + mn) gn kl co e' o' ((f + mn) % RT kk) mtx ft' an := by
  obtain ⟨i1, i2, i3, i4, i5, i6, i7, i8, i9, i10⟩ := I
  exact ⟨i1, i2, hok, i4, i5, i6, i7, i8, fun h => ⟨(i9 h).1, rfl, hrel⟩, fun h => absurd h (by omega)⟩
/-- close -/
theorem Inv.closed {tx kp : Nat → Int32} {ln kk f gn kl co : Nat} {e o : Nat → Int32} {a : Nat} {mtx ft an : Nat → Int32} (I : Inv tx kp ln kk f gn kl co e o a mtx ft an) {wn k' a' : Nat} (hw : wn ≤ 255) (hg : gn + wn ≤ 4096) {kp' an' e' o' : Nat → Int32} (h1 : ∀ q, q < wn → kp' q = bb (outB (RT kk) (ZZ kk ft f) (gn + q))) (h2 : ∀ q, q < wn → an' q = outB (RT kk) (ZZ kk ft f) (gn + q)) (h3 : RT kk * k' + a' = gn + wn) (h4 : a' ≤ RT kk) (h5 : Rel (zzL (ZZ kk ft f) k') e' o') : Inv tx kp' ln kk f (gn + wn) wn 1 e' o' a' mtx ft an' := by
  obtain ⟨i1, i2, i3, i4, i5, i6, i7, i8, i9, i10⟩ := I
  refine ⟨i1, i2, i3, hg, hw, by omega, i7, fun q hq => ?_, fun h => absurd h (by decide), fun _ => ⟨h4, k', h3, h5⟩⟩
  rw [h1 q hq, h2 q hq]
  exact (bb_255 _).trans (out_255 _ _ _)
end
section
/-! the law: its cases, one theorem each -/
def R_law : String := "SpongeDeskLaw"
def lw_P (b : Addr) (xs : List Int32) (args : Array Value) (s : State) : Prop := args = #[.ref b] ∧ s.IntsAt b xs ∧ xs.length ≤ 320 ∧ (Jvm.Cond.and given_1 narrow_1).before args s = true
def lw_Q (_ : Array Value) (s : State) (o : Outcome) (t : State) : Prop := o = .returned (some (.int 1)) ∧ Framed s o t [] 600000 7290000
def lw_Z (below : List Frame) (a : Array Value) (s : State) : State → Prop := fun t => ∃ o, t.status = .running ∧ Ended t below o ∧ lw_Q a s o t
/-- the law's own end, with 1 on the stack, nothing written that was there before, its room as the claim has it -/
theorem lw_ret {p : Program} {l : Launch} {e : Env} {s : State} {m : MethodId} {below : List Frame} {meth : Method} {c : Code} {b : Nat} (hx : p.tables.exec = Jvm.exec) (hb : c.code = code) (hr : meth.sig.returnType = ret) (hlocks : meth.locks = false) {pc : Nat} {H : Heap} {ls : Array Slot} (hdg : decode code pc = .ok (.ireturn, 1)) : W p l e room_1 s m #[Value.ref b] below meth c H [] 600000 7290000 (lw_Z below #[Value.ref b] s) (F0 m pc ls [.int 1]) := by
  intro T hT X
  obtain ⟨fs, hret, hrun, hended, hW, hframe⟩ := X.leave (v := some (.int 1)) (hlocks := hlocks) (fun h => by rw [hr] at h; cases h)
  have hmeth' : T.vm.method? m = some meth := X.method'
  refine ⟨T.setFrames fs, ?_, .returned (some (.int 1)), hrun, hended, rfl, ⟨_, rfl⟩, hW, hframe⟩
  jvm_step X.here [X.here.top, hx, hb, hdg, hmeth', hr, ret, narrow_b1]
  (try refine ⟨rfl, ?_⟩); (try refine ⟨rfl, ?_⟩)
  first | (intro acts; rw [hret _ acts rfl rfl rfl]) | rw [hret _ _ rfl rfl rfl]
  exact Steps.refl _
/-- what holds at the law's entry: the machine, the code, the tables' words (any of lw_tbl by 'hts w (by decide +kernel)'), the script of L ints xs at the cell b, what the Statement gives of the start (any of its parts by flat_of_before) -/
def lw_At (p : Program) (s : State) (m : MethodId) (meth : Method) (c : Code) (b L : Nat) (xs : Nat → Int32) : Prop :=
  p.tables.exec = Jvm.exec ∧ c.code = code ∧ meth.sig.returnType = ret ∧ c.maxLocals = 4 ∧ s.vm.findClass R_law = some m.cls ∧ (∀ w ∈ lw_tbl, w.before #[Value.ref b] s = true) ∧ va_X b L xs s s.heap ∧ b < s.heap.size ∧ meth.locks = false ∧ (Jvm.Cond.and given_1 narrow_1).before #[Value.ref b] s = true
section LAW0
variable {p : Program} {l : Launch} {e : Env} {R : Room} {s : State} {m : MethodId} {args : Array Value} {below : List Frame} {meth : Method} {c : Code} {H : Heap} {locs : List Loc} {cells slots : Nat} {Q : State → Prop} {cc : ByteArray} {pc : Nat} {ls : Array Slot} {rest : List Value} {A : Nat → Prop}
theorem n_sld (hx : p.tables.exec = Jvm.exec) (hb : c.code = cc) {b L : Nat} {xs : Nat → Int32} (hX : va_X b L xs s s.heap) (hbl : b < s.heap.size) (hbA : ¬ A b) (hS : va_S A s.heap H locs) {k : Nat} (hk : k < L) (hL : L ≤ 320) (hdg : decode cc pc = .ok (.iaload, 1))
    (kk : W p l e R s m args below meth c H locs cells slots Q (F0 m (pc + 1) ls (.int (xs k) :: rest))) : W p l e R s m args below meth c H locs cells slots Q (F0 m pc ls (.int (nI k) :: .ref b :: rest)) :=
  va_sld hx hb hX hbl hbA hS (vp_in_nI hk (by omega)) hdg (by rw [nI_clamp (by omega)]; exact kk)
end LAW0
section LAW1
variable {p : Program} {l : Launch} {en : Env} {s : State} {m : MethodId} {below : List Frame} {meth : Method} {c : Code} {Q : State → Prop} {D : va_G} {ca : Nat → ClassId} {A : Nat → Prop} {h g : Nat → Nat} {b L : Nat} {xs : Nat → Int32} {t1 t2 : Nat}
set_option maxHeartbeats 1000000 in
set_option maxRecDepth 100000 in
theorem law_put (F : Fix p m c cL_law 4 s #[Value.ref b] R_law A D ca) (hX : va_X b L xs s s.heap) (hbl : b < s.heap.size) (hbA : ¬ A b) (hL : L ≤ 320) (hdk : dkX t1 t2 A s) (j : Nat) (hj : 5 * j + 5 ≤ L)
    (K : ∀ (H : Heap) (locs : List Loc) (ls : Array Slot), LSt D ca h g A s H locs → lv_has ls 4 [(3, .int (nI (5 * j))), (2, .ref (g 0)), (1, .ref (h 12)), (0, .ref b)] → W p l en room_1 s m #[Value.ref b] below meth c H locs 23 13353 Q (F0 m 263 ls [])) :
    ∀ (H : Heap) (locs : List Loc) (ls : Array Slot), LSt D ca h g A s H locs → lv_has ls 4 [(3, .int (nI (5 * j))), (2, .ref (g 0)), (1, .ref (h 12)), (0, .ref b)] → W p l en room_1 s m #[Value.ref b] below meth c H locs 23 13353 Q (F0 m 76 ls []) := by
  obtain ⟨hx, hb, hml, hown, hts, hA, hK⟩ := F
  intro H locs ls hst hl
  obtain ⟨tx, kp, ln, kk, f, gn, kl, co, e, o, me, mo, se, so, a, mtx, ft, wd, t, cc, an, al, I, hP, hD, hS⟩ := hst
  obtain ⟨i1, i2, i3, i4, i5, i6, i7, i8, i9, i10⟩ := id I
  have hP : va_P D vwCl ((wDk ca h tx kp (nI ln) (nI kk) (nI f) (nI gn) (nI kl) (nI co) e o me mo se so (nI (RT kk)) (nI a)) ++ (wMd ca g (nI ln) (nI f) (nI kk) (nI gn) (nI (1 - co)) (nI kl) mtx ft wd t cc an al)) H := hP
  have hD : va_D A ((wDk ca h tx kp (nI ln) (nI kk) (nI f) (nI gn) (nI kl) (nI co) e o me mo se so (nI (RT kk)) (nI a)) ++ (wMd ca g (nI ln) (nI f) (nI kk) (nI gn) (nI (1 - co)) (nI kl) mtx ft wd t cc an al)) := hD
  by_cases h16 : ln ≤ 4080
  ·
    refine lv_aload_n hx hb dL_law_76 rfl (lv_at hl 2 rfl) ?_
    refine lv_aload_n hx hb dL_law_77 rfl (lv_at hl 3 rfl) ?_
    refine lv_iload_n hx hb dL_law_78 rfl (lv_at hl 0 rfl) ?_
    refine lv_iconst (v := nI 1) hx hb dL_law_79 (by decide) ?_
    refine n_add hx hb dL_law_80 ?_
    refine n_sld hx hb hX hbl hbA hS (show (5 * j) + 1 < L by omega) hL dL_law_81 ?_
    refine lv_aload_n hx hb dL_law_82 rfl (lv_at hl 3 rfl) ?_
    refine lv_iload_n hx hb dL_law_83 rfl (lv_at hl 0 rfl) ?_
    refine lv_iconst (v := nI 2) hx hb dL_law_84 (by decide) ?_
    refine n_add hx hb dL_law_85 ?_
    refine n_sld hx hb hX hbl hbA hS (show (5 * j) + 2 < L by omega) hL dL_law_86 ?_
    refine lv_aload_n hx hb dL_law_87 rfl (lv_at hl 3 rfl) ?_
    refine lv_iload_n hx hb dL_law_88 rfl (lv_at hl 0 rfl) ?_
    refine lv_iconst (v := nI 3) hx hb dL_law_89 (by decide) ?_
    refine n_add hx hb dL_law_90 ?_
    refine n_sld hx hb hX hbl hbA hS (show (5 * j) + 3 < L by omega) hL dL_law_91 ?_
    refine lv_aload_n hx hb dL_law_92 rfl (lv_at hl 3 rfl) ?_
    refine lv_iload_n hx hb dL_law_93 rfl (lv_at hl 0 rfl) ?_
    refine lv_iconst (v := nI 4) hx hb dL_law_94 (by decide) ?_
    refine n_add hx hb dL_law_95 ?_
    refine n_sld hx hb hX hbl hbA hS (show (5 * j) + 4 < L by omega) hL dL_law_96 ?_
    refine cVi (wr := wMd ca g (nI ln) (nI f) (nI kk) (nI gn) (nI (1 - co)) (nI kl) mtx ft wd t cc an al) (As := [.int (xs ((5 * j) + 1)), .int (xs ((5 * j) + 2)), .int (xs ((5 * j) + 3)), .int (xs ((5 * j) + 4))]) (rest := []) ⟨hx, hb, hml, hown, hts⟩ (m_dput l D ca h tx kp (nI kk) (nI f) (nI gn) (nI kl) (nI co) e o me mo se so (nI (RT kk)) (nI a) ln h16 (xs (5 * j + 1)) (xs (5 * j + 2)) (xs (5 * j + 3)) (xs (5 * j + 4))) (cwV 4 hts (lw_V q126 q127 q128 q12 q129) rfl rfl rfl (by decide +kernel) ⟨Nat.le_of_ble_eq_true rfl, Nat.le_of_ble_eq_true rfl⟩) hK hP hD hS hA [0, 1, 2, 3, 4, 5, 6, 7, 8, 9, 10, 11, 12, 13, 14] [15, 16, 17, 18, 19, 20, 21, 22] rfl rfl (by decide) (by decide) (by decide) 0 0 rfl rfl rfl (fun _ _ _ _ _ _ => trivial) (fun _ _ _ => trivial) rfl hl.1 rfl (Nat.le_of_ble_eq_true rfl) dL_law_97 ⟨Nat.le_of_ble_eq_true rfl, Nat.le_of_ble_eq_true rfl⟩ (fun v1 _ H locs hpo hP hD hS => ?_)
    have hP : va_P D vwCl ((wMd ca g (nI ln) (nI f) (nI kk) (nI gn) (nI (1 - co)) (nI kl) mtx ft wd t cc an al) ++ (wDk ca h (putT tx ln (xs (5 * j + 1)) (xs (5 * j + 2)) (xs (5 * j + 3)) (xs (5 * j + 4))) kp (nI (ln + 16)) (nI kk) (nI f) (nI gn) (nI kl) (nI co) e o me mo se so (nI (RT kk)) (nI a))) H := hP
    have hD : va_D A ((wMd ca g (nI ln) (nI f) (nI kk) (nI gn) (nI (1 - co)) (nI kl) mtx ft wd t cc an al) ++ (wDk ca h (putT tx ln (xs (5 * j + 1)) (xs (5 * j + 2)) (xs (5 * j + 3)) (xs (5 * j + 4))) kp (nI (ln + 16)) (nI kk) (nI f) (nI gn) (nI kl) (nI co) e o me mo se so (nI (RT kk)) (nI a))) := hD
    have hv1 : v1 = nI 1 := hpo
    refine lv_aload_n hx hb dL_law_100 rfl (lv_at hl 1 rfl) ?_
    refine lv_aload_n hx hb dL_law_101 rfl (lv_at hl 3 rfl) ?_
    refine lv_iload_n hx hb dL_law_102 rfl (lv_at hl 0 rfl) ?_
    refine lv_iconst (v := nI 1) hx hb dL_law_103 (by decide) ?_
    refine n_add hx hb dL_law_104 ?_
    refine n_sld hx hb hX hbl hbA hS (show (5 * j) + 1 < L by omega) hL dL_law_105 ?_
    refine lv_aload_n hx hb dL_law_106 rfl (lv_at hl 3 rfl) ?_
    refine lv_iload_n hx hb dL_law_107 rfl (lv_at hl 0 rfl) ?_
    refine lv_iconst (v := nI 2) hx hb dL_law_108 (by decide) ?_
    refine n_add hx hb dL_law_109 ?_
    refine n_sld hx hb hX hbl hbA hS (show (5 * j) + 2 < L by omega) hL dL_law_110 ?_
    refine lv_aload_n hx hb dL_law_111 rfl (lv_at hl 3 rfl) ?_
    refine lv_iload_n hx hb dL_law_112 rfl (lv_at hl 0 rfl) ?_
    refine lv_iconst (v := nI 3) hx hb dL_law_113 (by decide) ?_
    refine n_add hx hb dL_law_114 ?_
    refine n_sld hx hb hX hbl hbA hS (show (5 * j) + 3 < L by omega) hL dL_law_115 ?_
    refine lv_aload_n hx hb dL_law_116 rfl (lv_at hl 3 rfl) ?_
    refine lv_iload_n hx hb dL_law_117 rfl (lv_at hl 0 rfl) ?_
    refine lv_iconst (v := nI 4) hx hb dL_law_118 (by decide) ?_
    refine n_add hx hb dL_law_119 ?_
    refine n_sld hx hb hX hbl hbA hS (show (5 * j) + 4 < L by omega) hL dL_law_120 ?_
    refine cVi (wr := wDk ca h (putT tx ln (xs (5 * j + 1)) (xs (5 * j + 2)) (xs (5 * j + 3)) (xs (5 * j + 4))) kp (nI (ln + 16)) (nI kk) (nI f) (nI gn) (nI kl) (nI co) e o me mo se so (nI (RT kk)) (nI a)) (As := [.int (xs ((5 * j) + 1)), .int (xs ((5 * j) + 2)), .int (xs ((5 * j) + 3)), .int (xs ((5 * j) + 4))]) (rest := [.int v1]) ⟨hx, hb, hml, hown, hts⟩ (m_mput l D ca g (nI f) (nI kk) (nI gn) (nI (1 - co)) (nI kl) mtx ft wd t cc an al ln h16 (xs (5 * j + 1)) (xs (5 * j + 2)) (xs (5 * j + 3)) (xs (5 * j + 4))) (cwV 4 hts (lw_V q245 q246 q247 q15 q248) rfl rfl rfl (by decide +kernel) ⟨Nat.le_of_ble_eq_true rfl, Nat.le_of_ble_eq_true rfl⟩) hK hP hD hS hA [0, 1, 2, 3, 4, 5, 6, 7] [8, 9, 10, 11, 12, 13, 14, 15, 16, 17, 18, 19, 20, 21, 22] rfl rfl (by decide) (by decide) (by decide) 0 3 rfl rfl rfl (fun _ _ _ _ _ _ => trivial) (fun _ _ _ => trivial) rfl hl.1 rfl (Nat.le_of_ble_eq_true rfl) dL_law_121 ⟨Nat.le_of_ble_eq_true rfl, Nat.le_of_ble_eq_true rfl⟩ (fun v2 _ H locs hpo hP hD hS => ?_)
    have hP : va_P D vwCl ((wDk ca h (putT tx ln (xs (5 * j + 1)) (xs (5 * j + 2)) (xs (5 * j + 3)) (xs (5 * j + 4))) kp (nI (ln + 16)) (nI kk) (nI f) (nI gn) (nI kl) (nI co) e o me mo se so (nI (RT kk)) (nI a)) ++ (wMd ca g (nI (ln + 16)) (nI f) (nI kk) (nI gn) (nI (1 - co)) (nI kl) (rng ln 16 (fun q => mby (xs (5 * j + 1)) (xs (5 * j + 2)) (xs (5 * j + 3)) (xs (5 * j + 4)) (q - ln)) mtx) ft wd t cc an al)) H := hP
    have hD : va_D A ((wDk ca h (putT tx ln (xs (5 * j + 1)) (xs (5 * j + 2)) (xs (5 * j + 3)) (xs (5 * j + 4))) kp (nI (ln + 16)) (nI kk) (nI f) (nI gn) (nI kl) (nI co) e o me mo se so (nI (RT kk)) (nI a)) ++ (wMd ca g (nI (ln + 16)) (nI f) (nI kk) (nI gn) (nI (1 - co)) (nI kl) (rng ln 16 (fun q => mby (xs (5 * j + 1)) (xs (5 * j + 2)) (xs (5 * j + 3)) (xs (5 * j + 4)) (q - ln)) mtx) ft wd t cc an al)) := hD
    have hv2 : v2 = nI 1 := hpo
    refine lv_icmp_eq (tgt := 263) hx hb dL_law_124 (by decide) (fun hq => ?_) (fun hq => ?_)
    ·
      exact K H locs ls ⟨_, kp, ln + 16, kk, f, gn, kl, co, e, o, me, mo, se, so, a, _, ft, wd, t, cc, an, al, I.put h16 (xs (5 * j + 1)) (xs (5 * j + 2)) (xs (5 * j + 3)) (xs (5 * j + 4)), hP, hD, hS⟩ hl
    ·
      exact absurd (hv1.trans hv2.symm) hq
  ·
    refine lv_aload_n hx hb dL_law_76 rfl (lv_at hl 2 rfl) ?_
    refine lv_aload_n hx hb dL_law_77 rfl (lv_at hl 3 rfl) ?_
    refine lv_iload_n hx hb dL_law_78 rfl (lv_at hl 0 rfl) ?_
    refine lv_iconst (v := nI 1) hx hb dL_law_79 (by decide) ?_
    refine n_add hx hb dL_law_80 ?_
    refine n_sld hx hb hX hbl hbA hS (show (5 * j) + 1 < L by omega) hL dL_law_81 ?_
    refine lv_aload_n hx hb dL_law_82 rfl (lv_at hl 3 rfl) ?_
    refine lv_iload_n hx hb dL_law_83 rfl (lv_at hl 0 rfl) ?_
    refine lv_iconst (v := nI 2) hx hb dL_law_84 (by decide) ?_
    refine n_add hx hb dL_law_85 ?_
    refine n_sld hx hb hX hbl hbA hS (show (5 * j) + 2 < L by omega) hL dL_law_86 ?_
    refine lv_aload_n hx hb dL_law_87 rfl (lv_at hl 3 rfl) ?_
    refine lv_iload_n hx hb dL_law_88 rfl (lv_at hl 0 rfl) ?_
    refine lv_iconst (v := nI 3) hx hb dL_law_89 (by decide) ?_
    refine n_add hx hb dL_law_90 ?_
    refine n_sld hx hb hX hbl hbA hS (show (5 * j) + 3 < L by omega) hL dL_law_91 ?_
    refine lv_aload_n hx hb dL_law_92 rfl (lv_at hl 3 rfl) ?_
    refine lv_iload_n hx hb dL_law_93 rfl (lv_at hl 0 rfl) ?_
    refine lv_iconst (v := nI 4) hx hb dL_law_94 (by decide) ?_
    refine n_add hx hb dL_law_95 ?_
    refine n_sld hx hb hX hbl hbA hS (show (5 * j) + 4 < L by omega) hL dL_law_96 ?_
    refine cVi (wr := wMd ca g (nI ln) (nI f) (nI kk) (nI gn) (nI (1 - co)) (nI kl) mtx ft wd t cc an al) (As := [.int (xs ((5 * j) + 1)), .int (xs ((5 * j) + 2)), .int (xs ((5 * j) + 3)), .int (xs ((5 * j) + 4))]) (rest := []) ⟨hx, hb, hml, hown, hts⟩ (m_dput_no l D ca h tx kp (nI kk) (nI f) (nI gn) (nI kl) (nI co) e o me mo se so (nI (RT kk)) (nI a) ln i1 (by omega) (xs (5 * j + 1)) (xs (5 * j + 2)) (xs (5 * j + 3)) (xs (5 * j + 4))) (cwV 4 hts (lw_V q126 q127 q128 q12 q129) rfl rfl rfl (by decide +kernel) ⟨Nat.le_of_ble_eq_true rfl, Nat.le_of_ble_eq_true rfl⟩) hK hP hD hS hA [0, 1, 2, 3, 4, 5, 6, 7, 8, 9, 10, 11, 12, 13, 14] [15, 16, 17, 18, 19, 20, 21, 22] rfl rfl (by decide) (by decide) (by decide) 0 0 rfl rfl rfl (fun _ _ _ _ _ _ => trivial) (fun _ _ _ => trivial) rfl hl.1 rfl (Nat.le_of_ble_eq_true rfl) dL_law_97 ⟨Nat.le_of_ble_eq_true rfl, Nat.le_of_ble_eq_true rfl⟩ (fun v1 _ H locs hpo hP hD hS => ?_)
    have hP : va_P D vwCl ((wMd ca g (nI ln) (nI f) (nI kk) (nI gn) (nI (1 - co)) (nI kl) mtx ft wd t cc an al) ++ (wDk ca h tx kp (nI ln) (nI kk) (nI f) (nI gn) (nI kl) (nI co) e o me mo se so (nI (RT kk)) (nI a))) H := hP
    have hD : va_D A ((wMd ca g (nI ln) (nI f) (nI kk) (nI gn) (nI (1 - co)) (nI kl) mtx ft wd t cc an al) ++ (wDk ca h tx kp (nI ln) (nI kk) (nI f) (nI gn) (nI kl) (nI co) e o me mo se so (nI (RT kk)) (nI a))) := hD
    have hv1 : v1 = nI 0 := hpo
    refine lv_aload_n hx hb dL_law_100 rfl (lv_at hl 1 rfl) ?_
    refine lv_aload_n hx hb dL_law_101 rfl (lv_at hl 3 rfl) ?_
    refine lv_iload_n hx hb dL_law_102 rfl (lv_at hl 0 rfl) ?_
    refine lv_iconst (v := nI 1) hx hb dL_law_103 (by decide) ?_
    refine n_add hx hb dL_law_104 ?_
    refine n_sld hx hb hX hbl hbA hS (show (5 * j) + 1 < L by omega) hL dL_law_105 ?_
    refine lv_aload_n hx hb dL_law_106 rfl (lv_at hl 3 rfl) ?_
    refine lv_iload_n hx hb dL_law_107 rfl (lv_at hl 0 rfl) ?_
    refine lv_iconst (v := nI 2) hx hb dL_law_108 (by decide) ?_
    refine n_add hx hb dL_law_109 ?_
    refine n_sld hx hb hX hbl hbA hS (show (5 * j) + 2 < L by omega) hL dL_law_110 ?_
    refine lv_aload_n hx hb dL_law_111 rfl (lv_at hl 3 rfl) ?_
    refine lv_iload_n hx hb dL_law_112 rfl (lv_at hl 0 rfl) ?_
    refine lv_iconst (v := nI 3) hx hb dL_law_113 (by decide) ?_
    refine n_add hx hb dL_law_114 ?_
    refine n_sld hx hb hX hbl hbA hS (show (5 * j) + 3 < L by omega) hL dL_law_115 ?_
    refine lv_aload_n hx hb dL_law_116 rfl (lv_at hl 3 rfl) ?_
    refine lv_iload_n hx hb dL_law_117 rfl (lv_at hl 0 rfl) ?_
    refine lv_iconst (v := nI 4) hx hb dL_law_118 (by decide) ?_
    refine n_add hx hb dL_law_119 ?_
    refine n_sld hx hb hX hbl hbA hS (show (5 * j) + 4 < L by omega) hL dL_law_120 ?_
    refine cVi (wr := wDk ca h tx kp (nI ln) (nI kk) (nI f) (nI gn) (nI kl) (nI co) e o me mo se so (nI (RT kk)) (nI a)) (As := [.int (xs ((5 * j) + 1)), .int (xs ((5 * j) + 2)), .int (xs ((5 * j) + 3)), .int (xs ((5 * j) + 4))]) (rest := [.int v1]) ⟨hx, hb, hml, hown, hts⟩ (m_mput_no l D ca g (nI f) (nI kk) (nI gn) (nI (1 - co)) (nI kl) mtx ft wd t cc an al ln i1 (by omega) (xs (5 * j + 1)) (xs (5 * j + 2)) (xs (5 * j + 3)) (xs (5 * j + 4))) (cwV 4 hts (lw_V q245 q246 q247 q15 q248) rfl rfl rfl (by decide +kernel) ⟨Nat.le_of_ble_eq_true rfl, Nat.le_of_ble_eq_true rfl⟩) hK hP hD hS hA [0, 1, 2, 3, 4, 5, 6, 7] [8, 9, 10, 11, 12, 13, 14, 15, 16, 17, 18, 19, 20, 21, 22] rfl rfl (by decide) (by decide) (by decide) 0 3 rfl rfl rfl (fun _ _ _ _ _ _ => trivial) (fun _ _ _ => trivial) rfl hl.1 rfl (Nat.le_of_ble_eq_true rfl) dL_law_121 ⟨Nat.le_of_ble_eq_true rfl, Nat.le_of_ble_eq_true rfl⟩ (fun v2 _ H locs hpo hP hD hS => ?_)
    have hP : va_P D vwCl ((wDk ca h tx kp (nI ln) (nI kk) (nI f) (nI gn) (nI kl) (nI co) e o me mo se so (nI (RT kk)) (nI a)) ++ (wMd ca g (nI ln) (nI f) (nI kk) (nI gn) (nI (1 - co)) (nI kl) mtx ft wd t cc an al)) H := hP
    have hD : va_D A ((wDk ca h tx kp (nI ln) (nI kk) (nI f) (nI gn) (nI kl) (nI co) e o me mo se so (nI (RT kk)) (nI a)) ++ (wMd ca g (nI ln) (nI f) (nI kk) (nI gn) (nI (1 - co)) (nI kl) mtx ft wd t cc an al)) := hD
    have hv2 : v2 = nI 0 := hpo
    refine lv_icmp_eq (tgt := 263) hx hb dL_law_124 (by decide) (fun hq => ?_) (fun hq => ?_)
    ·
      exact K H locs ls ⟨tx, kp, ln, kk, f, gn, kl, co, e, o, me, mo, se, so, a, mtx, ft, wd, t, cc, an, al, I, hP, hD, hS⟩ hl
    ·
      exact absurd (hv1.trans hv2.symm) hq
set_option maxHeartbeats 1000000 in
set_option maxRecDepth 100000 in
theorem law_trim (F : Fix p m c cL_law 4 s #[Value.ref b] R_law A D ca) (hX : va_X b L xs s s.heap) (hbl : b < s.heap.size) (hbA : ¬ A b) (hL : L ≤ 320) (hdk : dkX t1 t2 A s) (j : Nat) (hj : 5 * j + 5 ≤ L)
    (K : ∀ (H : Heap) (locs : List Loc) (ls : Array Slot), LSt D ca h g A s H locs → lv_has ls 4 [(3, .int (nI (5 * j))), (2, .ref (g 0)), (1, .ref (h 12)), (0, .ref b)] → W p l en room_1 s m #[Value.ref b] below meth c H locs 23 13353 Q (F0 m 263 ls [])) :
    ∀ (H : Heap) (locs : List Loc) (ls : Array Slot), LSt D ca h g A s H locs → lv_has ls 4 [(3, .int (nI (5 * j))), (2, .ref (g 0)), (1, .ref (h 12)), (0, .ref b)] → W p l en room_1 s m #[Value.ref b] below meth c H locs 23 13353 Q (F0 m 129 ls []) := by
  obtain ⟨hx, hb, hml, hown, hts, hA, hK⟩ := F
  intro H locs ls hst hl
  obtain ⟨tx, kp, ln, kk, f, gn, kl, co, e, o, me, mo, se, so, a, mtx, ft, wd, t, cc, an, al, I, hP, hD, hS⟩ := hst
  obtain ⟨i1, i2, i3, i4, i5, i6, i7, i8, i9, i10⟩ := id I
  have hP : va_P D vwCl ((wDk ca h tx kp (nI ln) (nI kk) (nI f) (nI gn) (nI kl) (nI co) e o me mo se so (nI (RT kk)) (nI a)) ++ (wMd ca g (nI ln) (nI f) (nI kk) (nI gn) (nI (1 - co)) (nI kl) mtx ft wd t cc an al)) H := hP
  have hD : va_D A ((wDk ca h tx kp (nI ln) (nI kk) (nI f) (nI gn) (nI kl) (nI co) e o me mo se so (nI (RT kk)) (nI a)) ++ (wMd ca g (nI ln) (nI f) (nI kk) (nI gn) (nI (1 - co)) (nI kl) mtx ft wd t cc an al)) := hD
  refine lv_aload_n hx hb dL_law_129 rfl (lv_at hl 2 rfl) ?_
  refine lv_aload_n hx hb dL_law_130 rfl (lv_at hl 3 rfl) ?_
  refine lv_iload_n hx hb dL_law_131 rfl (lv_at hl 0 rfl) ?_
  refine lv_iconst (v := nI 1) hx hb dL_law_132 (by decide) ?_
  refine n_add hx hb dL_law_133 ?_
  refine n_sld hx hb hX hbl hbA hS (show (5 * j) + 1 < L by omega) hL dL_law_134 ?_
  refine cVv (wr := wMd ca g (nI ln) (nI f) (nI kk) (nI gn) (nI (1 - co)) (nI kl) mtx ft wd t cc an al) (As := [.int (xs ((5 * j) + 1))]) (rest := []) ⟨hx, hb, hml, hown, hts⟩ (m_dtrim l D ca h tx kp (nI kk) (nI f) (nI gn) (nI kl) (nI co) e o me mo se so (nI (RT kk)) (nI a) ln i1 (xs (5 * j + 1))) (cwV 1 hts (lw_V q134 q135 q136 q12 q137) rfl rfl rfl (by decide +kernel) ⟨Nat.le_of_ble_eq_true rfl, Nat.le_of_ble_eq_true rfl⟩) hK hP hD hS hA [0, 1, 2, 3, 4, 5, 6, 7, 8, 9, 10, 11, 12, 13, 14] [15, 16, 17, 18, 19, 20, 21, 22] rfl rfl (by decide) (by decide) (by decide) 0 0 rfl rfl rfl (fun _ _ _ _ _ _ => trivial) (fun _ _ _ => trivial) rfl hl.1 rfl (Nat.le_of_ble_eq_true rfl) dL_law_135 ⟨Nat.le_of_ble_eq_true rfl, Nat.le_of_ble_eq_true rfl⟩ (fun _ H locs hpo hP hD hS => ?_)
  have hP : va_P D vwCl ((wMd ca g (nI ln) (nI f) (nI kk) (nI gn) (nI (1 - co)) (nI kl) mtx ft wd t cc an al) ++ (wDk ca h tx kp (nI (cut (xs (5 * j + 1)) % (ln + 1))) (nI kk) (nI f) (nI gn) (nI kl) (nI co) e o me mo se so (nI (RT kk)) (nI a))) H := hP
  have hD : va_D A ((wMd ca g (nI ln) (nI f) (nI kk) (nI gn) (nI (1 - co)) (nI kl) mtx ft wd t cc an al) ++ (wDk ca h tx kp (nI (cut (xs (5 * j + 1)) % (ln + 1))) (nI kk) (nI f) (nI gn) (nI kl) (nI co) e o me mo se so (nI (RT kk)) (nI a))) := hD
  refine lv_aload_n hx hb dL_law_138 rfl (lv_at hl 1 rfl) ?_
  refine lv_aload_n hx hb dL_law_139 rfl (lv_at hl 3 rfl) ?_
  refine lv_iload_n hx hb dL_law_140 rfl (lv_at hl 0 rfl) ?_
  refine lv_iconst (v := nI 1) hx hb dL_law_141 (by decide) ?_
  refine n_add hx hb dL_law_142 ?_
  refine n_sld hx hb hX hbl hbA hS (show (5 * j) + 1 < L by omega) hL dL_law_143 ?_
  refine cVv (wr := wDk ca h tx kp (nI (cut (xs (5 * j + 1)) % (ln + 1))) (nI kk) (nI f) (nI gn) (nI kl) (nI co) e o me mo se so (nI (RT kk)) (nI a)) (As := [.int (xs ((5 * j) + 1))]) (rest := []) ⟨hx, hb, hml, hown, hts⟩ (m_mtrim l D ca g (nI f) (nI kk) (nI gn) (nI (1 - co)) (nI kl) mtx ft wd t cc an al ln i1 (xs (5 * j + 1))) (cwV 1 hts (lw_V q249 q250 q251 q15 q252) rfl rfl rfl (by decide +kernel) ⟨Nat.le_of_ble_eq_true rfl, Nat.le_of_ble_eq_true rfl⟩) hK hP hD hS hA [0, 1, 2, 3, 4, 5, 6, 7] [8, 9, 10, 11, 12, 13, 14, 15, 16, 17, 18, 19, 20, 21, 22] rfl rfl (by decide) (by decide) (by decide) 0 3 rfl rfl rfl (fun _ _ _ _ _ _ => trivial) (fun _ _ _ => trivial) rfl hl.1 rfl (Nat.le_of_ble_eq_true rfl) dL_law_144 ⟨Nat.le_of_ble_eq_true rfl, Nat.le_of_ble_eq_true rfl⟩ (fun _ H locs hpo hP hD hS => ?_)
  have hP : va_P D vwCl ((wDk ca h tx kp (nI (cut (xs (5 * j + 1)) % (ln + 1))) (nI kk) (nI f) (nI gn) (nI kl) (nI co) e o me mo se so (nI (RT kk)) (nI a)) ++ (wMd ca g (nI (cut (xs (5 * j + 1)) % (ln + 1))) (nI f) (nI kk) (nI gn) (nI (1 - co)) (nI kl) mtx ft wd t cc an al)) H := hP
  have hD : va_D A ((wDk ca h tx kp (nI (cut (xs (5 * j + 1)) % (ln + 1))) (nI kk) (nI f) (nI gn) (nI kl) (nI co) e o me mo se so (nI (RT kk)) (nI a)) ++ (wMd ca g (nI (cut (xs (5 * j + 1)) % (ln + 1))) (nI f) (nI kk) (nI gn) (nI (1 - co)) (nI kl) mtx ft wd t cc an al)) := hD
  refine lv_goto (tgt := 263) hx hb dL_law_147 (by decide) ?_
  exact K H locs ls ⟨tx, kp, _, kk, f, gn, kl, co, e, o, me, mo, se, so, a, mtx, ft, wd, t, cc, an, al, I.trim _, hP, hD, hS⟩ hl
set_option maxHeartbeats 1000000 in
set_option maxRecDepth 100000 in
theorem law_size (F : Fix p m c cL_law 4 s #[Value.ref b] R_law A D ca) (hX : va_X b L xs s s.heap) (hbl : b < s.heap.size) (hbA : ¬ A b) (hL : L ≤ 320) (hdk : dkX t1 t2 A s) (j : Nat) (hj : 5 * j + 5 ≤ L)
    (K : ∀ (H : Heap) (locs : List Loc) (ls : Array Slot), LSt D ca h g A s H locs → lv_has ls 4 [(3, .int (nI (5 * j))), (2, .ref (g 0)), (1, .ref (h 12)), (0, .ref b)] → W p l en room_1 s m #[Value.ref b] below meth c H locs 23 13353 Q (F0 m 263 ls [])) :
    ∀ (H : Heap) (locs : List Loc) (ls : Array Slot), LSt D ca h g A s H locs → lv_has ls 4 [(3, .int (nI (5 * j))), (2, .ref (g 0)), (1, .ref (h 12)), (0, .ref b)] → W p l en room_1 s m #[Value.ref b] below meth c H locs 23 13353 Q (F0 m 150 ls []) := by
  obtain ⟨hx, hb, hml, hown, hts, hA, hK⟩ := F
  intro H locs ls hst hl
  obtain ⟨tx, kp, ln, kk, f, gn, kl, co, e, o, me, mo, se, so, a, mtx, ft, wd, t, cc, an, al, I, hP, hD, hS⟩ := hst
  obtain ⟨i1, i2, i3, i4, i5, i6, i7, i8, i9, i10⟩ := id I
  have hP : va_P D vwCl ((wDk ca h tx kp (nI ln) (nI kk) (nI f) (nI gn) (nI kl) (nI co) e o me mo se so (nI (RT kk)) (nI a)) ++ (wMd ca g (nI ln) (nI f) (nI kk) (nI gn) (nI (1 - co)) (nI kl) mtx ft wd t cc an al)) H := hP
  have hD : va_D A ((wDk ca h tx kp (nI ln) (nI kk) (nI f) (nI gn) (nI kl) (nI co) e o me mo se so (nI (RT kk)) (nI a)) ++ (wMd ca g (nI ln) (nI f) (nI kk) (nI gn) (nI (1 - co)) (nI kl) mtx ft wd t cc an al)) := hD
  refine lv_aload_n hx hb dL_law_150 rfl (lv_at hl 2 rfl) ?_
  refine cVi (wr := wMd ca g (nI ln) (nI f) (nI kk) (nI gn) (nI (1 - co)) (nI kl) mtx ft wd t cc an al) (As := []) (rest := []) ⟨hx, hb, hml, hown, hts⟩ (m_dsize l D ca h tx kp (nI ln) (nI kk) (nI f) (nI gn) (nI kl) (nI co) e o me mo se so (nI (RT kk)) (nI a)) (cwV 0 hts (lw_V q138 q139 q140 q12 q141) rfl rfl rfl (by decide +kernel) ⟨Nat.le_of_ble_eq_true rfl, Nat.le_of_ble_eq_true rfl⟩) hK hP hD hS hA [0, 1, 2, 3, 4, 5, 6, 7, 8, 9, 10, 11, 12, 13, 14] [15, 16, 17, 18, 19, 20, 21, 22] rfl rfl (by decide) (by decide) (by decide) 0 0 rfl rfl rfl (fun _ _ _ _ _ _ => trivial) (fun _ _ _ => trivial) rfl hl.1 rfl (Nat.le_of_ble_eq_true rfl) dL_law_151 ⟨Nat.le_of_ble_eq_true rfl, Nat.le_of_ble_eq_true rfl⟩ (fun v1 _ H locs hpo hP hD hS => ?_)
  have hP : va_P D vwCl ((wMd ca g (nI ln) (nI f) (nI kk) (nI gn) (nI (1 - co)) (nI kl) mtx ft wd t cc an al) ++ (wDk ca h tx kp (nI ln) (nI kk) (nI f) (nI gn) (nI kl) (nI co) e o me mo se so (nI (RT kk)) (nI a))) H := hP
  have hD : va_D A ((wMd ca g (nI ln) (nI f) (nI kk) (nI gn) (nI (1 - co)) (nI kl) mtx ft wd t cc an al) ++ (wDk ca h tx kp (nI ln) (nI kk) (nI f) (nI gn) (nI kl) (nI co) e o me mo se so (nI (RT kk)) (nI a))) := hD
  have hv1 : v1 = nI ln := hpo
  refine lv_aload_n hx hb dL_law_154 rfl (lv_at hl 1 rfl) ?_
  refine cVi (wr := wDk ca h tx kp (nI ln) (nI kk) (nI f) (nI gn) (nI kl) (nI co) e o me mo se so (nI (RT kk)) (nI a)) (As := []) (rest := [.int v1]) ⟨hx, hb, hml, hown, hts⟩ (m_msize l D ca g (nI ln) (nI f) (nI kk) (nI gn) (nI (1 - co)) (nI kl) mtx ft wd t cc an al) (cwV 0 hts (lw_V q258 q259 q260 q15 q261) rfl rfl rfl (by decide +kernel) ⟨Nat.le_of_ble_eq_true rfl, Nat.le_of_ble_eq_true rfl⟩) hK hP hD hS hA [0, 1, 2, 3, 4, 5, 6, 7] [8, 9, 10, 11, 12, 13, 14, 15, 16, 17, 18, 19, 20, 21, 22] rfl rfl (by decide) (by decide) (by decide) 0 3 rfl rfl rfl (fun _ _ _ _ _ _ => trivial) (fun _ _ _ => trivial) rfl hl.1 rfl (Nat.le_of_ble_eq_true rfl) dL_law_155 ⟨Nat.le_of_ble_eq_true rfl, Nat.le_of_ble_eq_true rfl⟩ (fun v2 _ H locs hpo hP hD hS => ?_)
  have hP : va_P D vwCl ((wDk ca h tx kp (nI ln) (nI kk) (nI f) (nI gn) (nI kl) (nI co) e o me mo se so (nI (RT kk)) (nI a)) ++ (wMd ca g (nI ln) (nI f) (nI kk) (nI gn) (nI (1 - co)) (nI kl) mtx ft wd t cc an al)) H := hP
  have hD : va_D A ((wDk ca h tx kp (nI ln) (nI kk) (nI f) (nI gn) (nI kl) (nI co) e o me mo se so (nI (RT kk)) (nI a)) ++ (wMd ca g (nI ln) (nI f) (nI kk) (nI gn) (nI (1 - co)) (nI kl) mtx ft wd t cc an al)) := hD
  have hv2 : v2 = nI ln := hpo
  refine lv_icmp_eq (tgt := 263) hx hb dL_law_158 (by decide) (fun hq => ?_) (fun hq => ?_)
  ·
    exact K H locs ls ⟨tx, kp, ln, kk, f, gn, kl, co, e, o, me, mo, se, so, a, mtx, ft, wd, t, cc, an, al, I, hP, hD, hS⟩ hl
  ·
    exact absurd (hv1.trans hv2.symm) hq
set_option maxHeartbeats 1000000 in
set_option maxRecDepth 100000 in
theorem law_begin (F : Fix p m c cL_law 4 s #[Value.ref b] R_law A D ca) (hX : va_X b L xs s s.heap) (hbl : b < s.heap.size) (hbA : ¬ A b) (hL : L ≤ 320) (hdk : dkX t1 t2 A s) (j : Nat) (hj : 5 * j + 5 ≤ L)
    (K : ∀ (H : Heap) (locs : List Loc) (ls : Array Slot), LSt D ca h g A s H locs → lv_has ls 4 [(3, .int (nI (5 * j))), (2, .ref (g 0)), (1, .ref (h 12)), (0, .ref b)] → W p l en room_1 s m #[Value.ref b] below meth c H locs 23 13353 Q (F0 m 263 ls [])) :
    ∀ (H : Heap) (locs : List Loc) (ls : Array Slot), LSt D ca h g A s H locs → lv_has ls 4 [(3, .int (nI (5 * j))), (2, .ref (g 0)), (1, .ref (h 12)), (0, .ref b)] → W p l en room_1 s m #[Value.ref b] below meth c H locs 23 13353 Q (F0 m 163 ls []) := by
  obtain ⟨hx, hb, hml, hown, hts, hA, hK⟩ := F
  intro H locs ls hst hl
  obtain ⟨tx, kp, ln, kk, f, gn, kl, co, e, o, me, mo, se, so, a, mtx, ft, wd, t, cc, an, al, I, hP, hD, hS⟩ := hst
  obtain ⟨i1, i2, i3, i4, i5, i6, i7, i8, i9, i10⟩ := id I
  have hP : va_P D vwCl ((wDk ca h tx kp (nI ln) (nI kk) (nI f) (nI gn) (nI kl) (nI co) e o me mo se so (nI (RT kk)) (nI a)) ++ (wMd ca g (nI ln) (nI f) (nI kk) (nI gn) (nI (1 - co)) (nI kl) mtx ft wd t cc an al)) H := hP
  have hD : va_D A ((wDk ca h tx kp (nI ln) (nI kk) (nI f) (nI gn) (nI kl) (nI co) e o me mo se so (nI (RT kk)) (nI a)) ++ (wMd ca g (nI ln) (nI f) (nI kk) (nI gn) (nI (1 - co)) (nI kl) mtx ft wd t cc an al)) := hD
  refine lv_aload_n hx hb dL_law_163 rfl (lv_at hl 2 rfl) ?_
  refine lv_aload_n hx hb dL_law_164 rfl (lv_at hl 3 rfl) ?_
  refine lv_iload_n hx hb dL_law_165 rfl (lv_at hl 0 rfl) ?_
  refine lv_iconst (v := nI 1) hx hb dL_law_166 (by decide) ?_
  refine n_add hx hb dL_law_167 ?_
  refine n_sld hx hb hX hbl hbA hS (show (5 * j) + 1 < L by omega) hL dL_law_168 ?_
  refine cVv (wr := wMd ca g (nI ln) (nI f) (nI kk) (nI gn) (nI (1 - co)) (nI kl) mtx ft wd t cc an al) (As := [.int (xs ((5 * j) + 1))]) (rest := []) ⟨hx, hb, hml, hown, hts⟩ (m_dbegin l D ca h t1 t2 tx kp (nI ln) (nI kk) (nI f) (nI gn) (nI kl) (nI co) e o me mo se so (nI (RT kk)) (nI a) (xs (5 * j + 1))) (cwV 1 hts (lw_V q142 q85 q86 q12 q87) rfl rfl rfl (by decide +kernel) ⟨Nat.le_of_ble_eq_true rfl, Nat.le_of_ble_eq_true rfl⟩) hK hP hD hS hA [0, 1, 2, 3, 4, 5, 6, 7, 8, 9, 10, 11, 12, 13, 14] [15, 16, 17, 18, 19, 20, 21, 22] rfl rfl (by decide) (by decide) (by decide) 0 0 rfl rfl rfl dkX.blind (dkX.at hdk hS (va_free (wc := wDk ca h tx kp (nI ln) (nI kk) (nI f) (nI gn) (nI kl) (nI co) e o me mo se so (nI (RT kk)) (nI a)) hD hS hA [0, 1, 2, 3, 4, 5, 6, 7, 8, 9, 10, 11, 12, 13, 14] rfl)) rfl hl.1 rfl (Nat.le_of_ble_eq_true rfl) dL_law_169 ⟨Nat.le_of_ble_eq_true rfl, Nat.le_of_ble_eq_true rfl⟩ (fun _ H locs hpo hP hD hS => ?_)
  have hP : va_P D vwCl ((wMd ca g (nI ln) (nI f) (nI kk) (nI gn) (nI (1 - co)) (nI kl) mtx ft wd t cc an al) ++ (wDk ca h tx kp (nI ln) (nI (cut (xs (5 * j + 1)) % 6)) (nI 0) (nI 0) (nI 0) (nI 0) (fun _ => 0) (fun _ => 0) me mo se so (nI (RT (cut (xs (5 * j + 1)) % 6))) (nI 0))) H := hP
  have hD : va_D A ((wMd ca g (nI ln) (nI f) (nI kk) (nI gn) (nI (1 - co)) (nI kl) mtx ft wd t cc an al) ++ (wDk ca h tx kp (nI ln) (nI (cut (xs (5 * j + 1)) % 6)) (nI 0) (nI 0) (nI 0) (nI 0) (fun _ => 0) (fun _ => 0) me mo se so (nI (RT (cut (xs (5 * j + 1)) % 6))) (nI 0))) := hD
  refine lv_aload_n hx hb dL_law_172 rfl (lv_at hl 1 rfl) ?_
  refine lv_aload_n hx hb dL_law_173 rfl (lv_at hl 3 rfl) ?_
  refine lv_iload_n hx hb dL_law_174 rfl (lv_at hl 0 rfl) ?_
  refine lv_iconst (v := nI 1) hx hb dL_law_175 (by decide) ?_
  refine n_add hx hb dL_law_176 ?_
  refine n_sld hx hb hX hbl hbA hS (show (5 * j) + 1 < L by omega) hL dL_law_177 ?_
  refine cVv (wr := wDk ca h tx kp (nI ln) (nI (cut (xs (5 * j + 1)) % 6)) (nI 0) (nI 0) (nI 0) (nI 0) (fun _ => 0) (fun _ => 0) me mo se so (nI (RT (cut (xs (5 * j + 1)) % 6))) (nI 0)) (As := [.int (xs ((5 * j) + 1))]) (rest := []) ⟨hx, hb, hml, hown, hts⟩ (m_mbegin l D ca g (nI ln) (nI f) (nI kk) (nI gn) (nI (1 - co)) (nI kl) mtx ft wd t cc an al (xs (5 * j + 1))) (cwV 1 hts (lw_V q262 q263 q264 q15 q265) rfl rfl rfl (by decide +kernel) ⟨Nat.le_of_ble_eq_true rfl, Nat.le_of_ble_eq_true rfl⟩) hK hP hD hS hA [0, 1, 2, 3, 4, 5, 6, 7] [8, 9, 10, 11, 12, 13, 14, 15, 16, 17, 18, 19, 20, 21, 22] rfl rfl (by decide) (by decide) (by decide) 0 3 rfl rfl rfl (fun _ _ _ _ _ _ => trivial) (fun _ _ _ => trivial) rfl hl.1 rfl (Nat.le_of_ble_eq_true rfl) dL_law_178 ⟨Nat.le_of_ble_eq_true rfl, Nat.le_of_ble_eq_true rfl⟩ (fun _ H locs hpo hP hD hS => ?_)
  have hP : va_P D vwCl ((wDk ca h tx kp (nI ln) (nI (cut (xs (5 * j + 1)) % 6)) (nI 0) (nI 0) (nI 0) (nI 0) (fun _ => 0) (fun _ => 0) me mo se so (nI (RT (cut (xs (5 * j + 1)) % 6))) (nI 0)) ++ (wMd ca g (nI ln) (nI 0) (nI (cut (xs (5 * j + 1)) % 6)) (nI 0) (nI (1 - 0)) (nI 0) mtx ft wd t cc an al)) H := hP
  have hD : va_D A ((wDk ca h tx kp (nI ln) (nI (cut (xs (5 * j + 1)) % 6)) (nI 0) (nI 0) (nI 0) (nI 0) (fun _ => 0) (fun _ => 0) me mo se so (nI (RT (cut (xs (5 * j + 1)) % 6))) (nI 0)) ++ (wMd ca g (nI ln) (nI 0) (nI (cut (xs (5 * j + 1)) % 6)) (nI 0) (nI (1 - 0)) (nI 0) mtx ft wd t cc an al)) := hD
  refine lv_goto (tgt := 263) hx hb dL_law_181 (by decide) ?_
  exact K H locs ls ⟨tx, kp, ln, _, 0, 0, 0, 0, _, _, me, mo, se, so, 0, mtx, ft, wd, t, cc, an, al, I.begin _, hP, hD, hS⟩ hl
set_option maxHeartbeats 1000000 in
set_option maxRecDepth 100000 in
theorem law_feed (F : Fix p m c cL_law 4 s #[Value.ref b] R_law A D ca) (hX : va_X b L xs s s.heap) (hbl : b < s.heap.size) (hbA : ¬ A b) (hL : L ≤ 320) (hdk : dkX t1 t2 A s) (j : Nat) (hj : 5 * j + 5 ≤ L)
    (K : ∀ (H : Heap) (locs : List Loc) (ls : Array Slot), LSt D ca h g A s H locs → lv_has ls 4 [(3, .int (nI (5 * j))), (2, .ref (g 0)), (1, .ref (h 12)), (0, .ref b)] → W p l en room_1 s m #[Value.ref b] below meth c H locs 23 13353 Q (F0 m 263 ls [])) :
    ∀ (H : Heap) (locs : List Loc) (ls : Array Slot), LSt D ca h g A s H locs → lv_has ls 4 [(3, .int (nI (5 * j))), (2, .ref (g 0)), (1, .ref (h 12)), (0, .ref b)] → W p l en room_1 s m #[Value.ref b] below meth c H locs 23 13353 Q (F0 m 184 ls []) := by
  obtain ⟨hx, hb, hml, hown, hts, hA, hK⟩ := F
  intro H locs ls hst hl
  obtain ⟨tx, kp, ln, kk, f, gn, kl, co, e, o, me, mo, se, so, a, mtx, ft, wd, t, cc, an, al, I, hP, hD, hS⟩ := hst
  obtain ⟨i1, i2, i3, i4, i5, i6, i7, i8, i9, i10⟩ := id I
  have hP : va_P D vwCl ((wDk ca h tx kp (nI ln) (nI kk) (nI f) (nI gn) (nI kl) (nI co) e o me mo se so (nI (RT kk)) (nI a)) ++ (wMd ca g (nI ln) (nI f) (nI kk) (nI gn) (nI (1 - co)) (nI kl) mtx ft wd t cc an al)) H := hP
  have hD : va_D A ((wDk ca h tx kp (nI ln) (nI kk) (nI f) (nI gn) (nI kl) (nI co) e o me mo se so (nI (RT kk)) (nI a)) ++ (wMd ca g (nI ln) (nI f) (nI kk) (nI gn) (nI (1 - co)) (nI kl) mtx ft wd t cc an al)) := hD
  obtain ⟨hr1, hr0, hr72⟩ := RT_lt kk i2
  obtain ⟨fr, hfr⟩ : ∃ fr, fr = cut (xs (5 * j + 1)) % (ln + 1) := ⟨_, rfl⟩
  obtain ⟨mn, hmn⟩ : ∃ mn, mn = cut (xs (5 * j + 2)) % (ln - fr + 1) := ⟨_, rfl⟩
  have hfl : fr < ln + 1 := by rw [hfr]; exact Nat.mod_lt _ (by omega)
  have hml2 : mn < ln - fr + 1 := by rw [hmn]; exact Nat.mod_lt _ (by omega)
  by_cases hno : co = 1 ∨ 2048 < f + mn
  ·
    refine lv_aload_n hx hb dL_law_184 rfl (lv_at hl 2 rfl) ?_
    refine lv_aload_n hx hb dL_law_185 rfl (lv_at hl 3 rfl) ?_
    refine lv_iload_n hx hb dL_law_186 rfl (lv_at hl 0 rfl) ?_
    refine lv_iconst (v := nI 1) hx hb dL_law_187 (by decide) ?_
    refine n_add hx hb dL_law_188 ?_
    refine n_sld hx hb hX hbl hbA hS (show (5 * j) + 1 < L by omega) hL dL_law_189 ?_
    refine lv_aload_n hx hb dL_law_190 rfl (lv_at hl 3 rfl) ?_
    refine lv_iload_n hx hb dL_law_191 rfl (lv_at hl 0 rfl) ?_
    refine lv_iconst (v := nI 2) hx hb dL_law_192 (by decide) ?_
    refine n_add hx hb dL_law_193 ?_
    refine n_sld hx hb hX hbl hbA hS (show (5 * j) + 2 < L by omega) hL dL_law_194 ?_
    refine cVi (wr := wMd ca g (nI ln) (nI f) (nI kk) (nI gn) (nI (1 - co)) (nI kl) mtx ft wd t cc an al) (As := [.int (xs ((5 * j) + 1)), .int (xs ((5 * j) + 2))]) (rest := []) ⟨hx, hb, hml, hown, hts⟩ (m_dfeed_no l D ca h tx kp (nI kk) (nI gn) (nI kl) e o me mo se so (nI (RT kk)) (nI a) ln f fr mn i1 i3 (xs (5 * j + 1)) (xs (5 * j + 2)) hfr hmn co i6 hno) (cwV 2 hts (lw_V q143 q144 q145 q12 q146) rfl rfl rfl (by decide +kernel) ⟨Nat.le_of_ble_eq_true rfl, Nat.le_of_ble_eq_true rfl⟩) hK hP hD hS hA [0, 1, 2, 3, 4, 5, 6, 7, 8, 9, 10, 11, 12, 13, 14] [15, 16, 17, 18, 19, 20, 21, 22] rfl rfl (by decide) (by decide) (by decide) 0 0 rfl rfl rfl (fun _ _ _ _ _ _ => trivial) (fun _ _ _ => trivial) rfl hl.1 rfl (Nat.le_of_ble_eq_true rfl) dL_law_195 ⟨Nat.le_of_ble_eq_true rfl, Nat.le_of_ble_eq_true rfl⟩ (fun v1 _ H locs hpo hP hD hS => ?_)
    have hP : va_P D vwCl ((wMd ca g (nI ln) (nI f) (nI kk) (nI gn) (nI (1 - co)) (nI kl) mtx ft wd t cc an al) ++ (wDk ca h tx kp (nI ln) (nI kk) (nI f) (nI gn) (nI kl) (nI co) e o me mo se so (nI (RT kk)) (nI a))) H := hP
    have hD : va_D A ((wMd ca g (nI ln) (nI f) (nI kk) (nI gn) (nI (1 - co)) (nI kl) mtx ft wd t cc an al) ++ (wDk ca h tx kp (nI ln) (nI kk) (nI f) (nI gn) (nI kl) (nI co) e o me mo se so (nI (RT kk)) (nI a))) := hD
    have hv1 : v1 = nI 0 := hpo
    refine lv_aload_n hx hb dL_law_198 rfl (lv_at hl 1 rfl) ?_
    refine lv_aload_n hx hb dL_law_199 rfl (lv_at hl 3 rfl) ?_
    refine lv_iload_n hx hb dL_law_200 rfl (lv_at hl 0 rfl) ?_
    refine lv_iconst (v := nI 1) hx hb dL_law_201 (by decide) ?_
    refine n_add hx hb dL_law_202 ?_
    refine n_sld hx hb hX hbl hbA hS (show (5 * j) + 1 < L by omega) hL dL_law_203 ?_
    refine lv_aload_n hx hb dL_law_204 rfl (lv_at hl 3 rfl) ?_
    refine lv_iload_n hx hb dL_law_205 rfl (lv_at hl 0 rfl) ?_
    refine lv_iconst (v := nI 2) hx hb dL_law_206 (by decide) ?_
    refine n_add hx hb dL_law_207 ?_
    refine n_sld hx hb hX hbl hbA hS (show (5 * j) + 2 < L by omega) hL dL_law_208 ?_
    refine cVi (wr := wDk ca h tx kp (nI ln) (nI kk) (nI f) (nI gn) (nI kl) (nI co) e o me mo se so (nI (RT kk)) (nI a)) (As := [.int (xs ((5 * j) + 1)), .int (xs ((5 * j) + 2))]) (rest := [.int v1]) ⟨hx, hb, hml, hown, hts⟩ (m_mfeed_no l D ca g (nI kk) (nI gn) (nI kl) mtx ft wd t cc an al ln f fr mn i1 i3 (xs (5 * j + 1)) (xs (5 * j + 2)) hfr hmn (1 - co) (by omega) (by omega)) (cwV 2 hts (lw_V q266 q267 q268 q15 q269) rfl rfl rfl (by decide +kernel) ⟨Nat.le_of_ble_eq_true rfl, Nat.le_of_ble_eq_true rfl⟩) hK hP hD hS hA [0, 1, 2, 3, 4, 5, 6, 7] [8, 9, 10, 11, 12, 13, 14, 15, 16, 17, 18, 19, 20, 21, 22] rfl rfl (by decide) (by decide) (by decide) 0 3 rfl rfl rfl (fun _ _ _ _ _ _ => trivial) (fun _ _ _ => trivial) rfl hl.1 rfl (Nat.le_of_ble_eq_true rfl) dL_law_209 ⟨Nat.le_of_ble_eq_true rfl, Nat.le_of_ble_eq_true rfl⟩ (fun v2 _ H locs hpo hP hD hS => ?_)
    have hP : va_P D vwCl ((wDk ca h tx kp (nI ln) (nI kk) (nI f) (nI gn) (nI kl) (nI co) e o me mo se so (nI (RT kk)) (nI a)) ++ (wMd ca g (nI ln) (nI f) (nI kk) (nI gn) (nI (1 - co)) (nI kl) mtx ft wd t cc an al)) H := hP
    have hD : va_D A ((wDk ca h tx kp (nI ln) (nI kk) (nI f) (nI gn) (nI kl) (nI co) e o me mo se so (nI (RT kk)) (nI a)) ++ (wMd ca g (nI ln) (nI f) (nI kk) (nI gn) (nI (1 - co)) (nI kl) mtx ft wd t cc an al)) := hD
    have hv2 : v2 = nI 0 := hpo
    refine lv_icmp_eq (tgt := 263) hx hb dL_law_212 (by decide) (fun hq => ?_) (fun hq => ?_)
    ·
      exact K H locs ls ⟨tx, kp, ln, kk, f, gn, kl, co, e, o, me, mo, se, so, a, mtx, ft, wd, t, cc, an, al, I, hP, hD, hS⟩ hl
    ·
      exact absurd (hv1.trans hv2.symm) hq
  ·
    have hco : co = 0 := by omega
    have hok : f + mn ≤ 2048 := by omega
    obtain ⟨hft, hrel⟩ := I.feed hco fr mn (by omega)
    obtain ⟨hg0, ha, -⟩ := i9 hco
    subst hco
    subst ha
    refine lv_aload_n hx hb dL_law_184 rfl (lv_at hl 2 rfl) ?_
    refine lv_aload_n hx hb dL_law_185 rfl (lv_at hl 3 rfl) ?_
    refine lv_iload_n hx hb dL_law_186 rfl (lv_at hl 0 rfl) ?_
    refine lv_iconst (v := nI 1) hx hb dL_law_187 (by decide) ?_
    refine n_add hx hb dL_law_188 ?_
    refine n_sld hx hb hX hbl hbA hS (show (5 * j) + 1 < L by omega) hL dL_law_189 ?_
    refine lv_aload_n hx hb dL_law_190 rfl (lv_at hl 3 rfl) ?_
    refine lv_iload_n hx hb dL_law_191 rfl (lv_at hl 0 rfl) ?_
    refine lv_iconst (v := nI 2) hx hb dL_law_192 (by decide) ?_
    refine n_add hx hb dL_law_193 ?_
    refine n_sld hx hb hX hbl hbA hS (show (5 * j) + 2 < L by omega) hL dL_law_194 ?_
    refine cVi (wr := wMd ca g (nI ln) (nI f) (nI kk) (nI gn) (nI (1 - 0)) (nI kl) mtx ft wd t cc an al) (As := [.int (xs ((5 * j) + 1)), .int (xs ((5 * j) + 2))]) (rest := []) ⟨hx, hb, hml, hown, hts⟩ (m_dfeed l D ca h tx kp (nI kk) (nI gn) (nI kl) e o me mo se so ln f fr mn i1 i3 (xs (5 * j + 1)) (xs (5 * j + 2)) hfr hmn (RT kk) hr1 hr0 (rng f mn (fun q => (mtx (fr + (q - f))).toInt8.toInt32) ft) hok hft hrel) (cwV 2 hts (lw_V q143 q144 q145 q12 q146) rfl rfl rfl (by decide +kernel) ⟨Nat.le_of_ble_eq_true rfl, Nat.le_of_ble_eq_true rfl⟩) hK hP hD hS hA [0, 1, 2, 3, 4, 5, 6, 7, 8, 9, 10, 11, 12, 13, 14] [15, 16, 17, 18, 19, 20, 21, 22] rfl rfl (by decide) (by decide) (by decide) 0 0 rfl rfl rfl (fun _ _ _ _ _ _ => trivial) (fun _ _ _ => trivial) rfl hl.1 rfl (Nat.le_of_ble_eq_true rfl) dL_law_195 ⟨Nat.le_of_ble_eq_true rfl, Nat.le_of_ble_eq_true rfl⟩ (fun v1 ⟨e, o, me, mo, se, so⟩ H locs hpo hP hD hS => ?_)
    have hP : va_P D vwCl ((wMd ca g (nI ln) (nI f) (nI kk) (nI gn) (nI (1 - 0)) (nI kl) mtx ft wd t cc an al) ++ (wDk ca h tx kp (nI ln) (nI kk) (nI (f + mn)) (nI gn) (nI kl) (nI 0) e o me mo se so (nI (RT kk)) (nI ((f + mn) % RT kk)))) H := hP
    have hD : va_D A ((wMd ca g (nI ln) (nI f) (nI kk) (nI gn) (nI (1 - 0)) (nI kl) mtx ft wd t cc an al) ++ (wDk ca h tx kp (nI ln) (nI kk) (nI (f + mn)) (nI gn) (nI kl) (nI 0) e o me mo se so (nI (RT kk)) (nI ((f + mn) % RT kk)))) := hD
    obtain ⟨hv1, hrel2⟩ := hpo
    refine lv_aload_n hx hb dL_law_198 rfl (lv_at hl 1 rfl) ?_
    refine lv_aload_n hx hb dL_law_199 rfl (lv_at hl 3 rfl) ?_
    refine lv_iload_n hx hb dL_law_200 rfl (lv_at hl 0 rfl) ?_
    refine lv_iconst (v := nI 1) hx hb dL_law_201 (by decide) ?_
    refine n_add hx hb dL_law_202 ?_
    refine n_sld hx hb hX hbl hbA hS (show (5 * j) + 1 < L by omega) hL dL_law_203 ?_
    refine lv_aload_n hx hb dL_law_204 rfl (lv_at hl 3 rfl) ?_
    refine lv_iload_n hx hb dL_law_205 rfl (lv_at hl 0 rfl) ?_
    refine lv_iconst (v := nI 2) hx hb dL_law_206 (by decide) ?_
    refine n_add hx hb dL_law_207 ?_
    refine n_sld hx hb hX hbl hbA hS (show (5 * j) + 2 < L by omega) hL dL_law_208 ?_
    refine cVi (wr := wDk ca h tx kp (nI ln) (nI kk) (nI (f + mn)) (nI gn) (nI kl) (nI 0) e o me mo se so (nI (RT kk)) (nI ((f + mn) % RT kk))) (As := [.int (xs ((5 * j) + 1)), .int (xs ((5 * j) + 2))]) (rest := [.int v1]) ⟨hx, hb, hml, hown, hts⟩ (m_mfeed l D ca g (nI kk) (nI gn) (nI kl) mtx ft wd t cc an al ln f fr mn i1 i3 (xs (5 * j + 1)) (xs (5 * j + 2)) hfr hmn hok) (cwV 2 hts (lw_V q266 q267 q268 q15 q269) rfl rfl rfl (by decide +kernel) ⟨Nat.le_of_ble_eq_true rfl, Nat.le_of_ble_eq_true rfl⟩) hK hP hD hS hA [0, 1, 2, 3, 4, 5, 6, 7] [8, 9, 10, 11, 12, 13, 14, 15, 16, 17, 18, 19, 20, 21, 22] rfl rfl (by decide) (by decide) (by decide) 0 3 rfl rfl rfl (fun _ _ _ _ _ _ => trivial) (fun _ _ _ => trivial) rfl hl.1 rfl (Nat.le_of_ble_eq_true rfl) dL_law_209 ⟨Nat.le_of_ble_eq_true rfl, Nat.le_of_ble_eq_true rfl⟩ (fun v2 _ H locs hpo hP hD hS => ?_)
    have hP : va_P D vwCl ((wDk ca h tx kp (nI ln) (nI kk) (nI (f + mn)) (nI gn) (nI kl) (nI 0) e o me mo se so (nI (RT kk)) (nI ((f + mn) % RT kk))) ++ (wMd ca g (nI ln) (nI (f + mn)) (nI kk) (nI gn) (nI (1 - 0)) (nI kl) mtx (rng f mn (fun q => (mtx (fr + (q - f))).toInt8.toInt32) ft) wd t cc an al)) H := hP
    have hD : va_D A ((wDk ca h tx kp (nI ln) (nI kk) (nI (f + mn)) (nI gn) (nI kl) (nI 0) e o me mo se so (nI (RT kk)) (nI ((f + mn) % RT kk))) ++ (wMd ca g (nI ln) (nI (f + mn)) (nI kk) (nI gn) (nI (1 - 0)) (nI kl) mtx (rng f mn (fun q => (mtx (fr + (q - f))).toInt8.toInt32) ft) wd t cc an al)) := hD
    have hv2 : v2 = nI 1 := hpo
    refine lv_icmp_eq (tgt := 263) hx hb dL_law_212 (by decide) (fun hq => ?_) (fun hq => ?_)
    ·
      exact K H locs ls ⟨tx, kp, ln, kk, f + mn, gn, kl, 0, e, o, me, mo, se, so, _, mtx, _, wd, t, cc, an, al, I.fed rfl hok hrel2, hP, hD, hS⟩ hl
    ·
      exact absurd (hv1.trans hv2.symm) hq
set_option maxHeartbeats 1000000 in
set_option maxRecDepth 100000 in
theorem law_close (F : Fix p m c cL_law 4 s #[Value.ref b] R_law A D ca) (hX : va_X b L xs s s.heap) (hbl : b < s.heap.size) (hbA : ¬ A b) (hL : L ≤ 320) (hdk : dkX t1 t2 A s) (j : Nat) (hj : 5 * j + 5 ≤ L)
    (K : ∀ (H : Heap) (locs : List Loc) (ls : Array Slot), LSt D ca h g A s H locs → lv_has ls 4 [(3, .int (nI (5 * j))), (2, .ref (g 0)), (1, .ref (h 12)), (0, .ref b)] → W p l en room_1 s m #[Value.ref b] below meth c H locs 23 13353 Q (F0 m 263 ls [])) :
    ∀ (H : Heap) (locs : List Loc) (ls : Array Slot), LSt D ca h g A s H locs → lv_has ls 4 [(3, .int (nI (5 * j))), (2, .ref (g 0)), (1, .ref (h 12)), (0, .ref b)] → W p l en room_1 s m #[Value.ref b] below meth c H locs 23 13353 Q (F0 m 217 ls []) := by
  obtain ⟨hx, hb, hml, hown, hts, hA, hK⟩ := F
  intro H locs ls hst hl
  obtain ⟨tx, kp, ln, kk, f, gn, kl, co, e, o, me, mo, se, so, a, mtx, ft, wd, t, cc, an, al, I, hP, hD, hS⟩ := hst
  obtain ⟨i1, i2, i3, i4, i5, i6, i7, i8, i9, i10⟩ := id I
  have hP : va_P D vwCl ((wDk ca h tx kp (nI ln) (nI kk) (nI f) (nI gn) (nI kl) (nI co) e o me mo se so (nI (RT kk)) (nI a)) ++ (wMd ca g (nI ln) (nI f) (nI kk) (nI gn) (nI (1 - co)) (nI kl) mtx ft wd t cc an al)) H := hP
  have hD : va_D A ((wDk ca h tx kp (nI ln) (nI kk) (nI f) (nI gn) (nI kl) (nI co) e o me mo se so (nI (RT kk)) (nI a)) ++ (wMd ca g (nI ln) (nI f) (nI kk) (nI gn) (nI (1 - co)) (nI kl) mtx ft wd t cc an al)) := hD
  obtain ⟨hr1, hr0, hr72⟩ := RT_lt kk i2
  obtain ⟨wn, hwn⟩ : ∃ wn, wn = if kk < 4 then SU kk else cu8 (xs (5 * j + 1)) := ⟨_, rfl⟩
  have h255 : wn ≤ 255 ∧ (kk < 4 → wn ≤ 64) := by
    by_cases h4 : kk < 4
    · rw [if_pos h4] at hwn; have := SU_lt kk h4; omega
    · rw [if_neg h4] at hwn; have := (cu8_eq (xs (5 * j + 1))).2; omega
  obtain ⟨h255, h64⟩ := h255
  by_cases hno : (kk < 4 ∧ co = 1) ∨ (3 < kk ∧ 4096 < gn + wn)
  ·
    refine lv_aload_n hx hb dL_law_217 rfl (lv_at hl 2 rfl) ?_
    refine lv_aload_n hx hb dL_law_218 rfl (lv_at hl 3 rfl) ?_
    refine lv_iload_n hx hb dL_law_219 rfl (lv_at hl 0 rfl) ?_
    refine lv_iconst (v := nI 1) hx hb dL_law_220 (by decide) ?_
    refine n_add hx hb dL_law_221 ?_
    refine n_sld hx hb hX hbl hbA hS (show (5 * j) + 1 < L by omega) hL dL_law_222 ?_
    refine cVi (wr := wMd ca g (nI ln) (nI f) (nI kk) (nI gn) (nI (1 - co)) (nI kl) mtx ft wd t cc an al) (As := [.int (xs ((5 * j) + 1))]) (rest := []) ⟨hx, hb, hml, hown, hts⟩ (m_dclose_no l D ca h t1 t2 tx kp (nI ln) (nI f) (nI kl) e o me mo se so (nI (RT kk)) (nI a) kk gn wn i2 i4 (xs (5 * j + 1)) hwn co i6 (by omega)) (cwV 1 hts (lw_V q177 q178 q179 q12 q180) rfl rfl rfl (by decide +kernel) ⟨Nat.le_of_ble_eq_true rfl, Nat.le_of_ble_eq_true rfl⟩) hK hP hD hS hA [0, 1, 2, 3, 4, 5, 6, 7, 8, 9, 10, 11, 12, 13, 14] [15, 16, 17, 18, 19, 20, 21, 22] rfl rfl (by decide) (by decide) (by decide) 0 0 rfl rfl rfl dkX.blind (dkX.at hdk hS (va_free (wc := wDk ca h tx kp (nI ln) (nI kk) (nI f) (nI gn) (nI kl) (nI co) e o me mo se so (nI (RT kk)) (nI a)) hD hS hA [0, 1, 2, 3, 4, 5, 6, 7, 8, 9, 10, 11, 12, 13, 14] rfl)) rfl hl.1 rfl (Nat.le_of_ble_eq_true rfl) dL_law_223 ⟨Nat.le_of_ble_eq_true rfl, Nat.le_of_ble_eq_true rfl⟩ (fun v1 _ H locs hpo hP hD hS => ?_)
    have hP : va_P D vwCl ((wMd ca g (nI ln) (nI f) (nI kk) (nI gn) (nI (1 - co)) (nI kl) mtx ft wd t cc an al) ++ (wDk ca h tx kp (nI ln) (nI kk) (nI f) (nI gn) (nI kl) (nI co) e o me mo se so (nI (RT kk)) (nI a))) H := hP
    have hD : va_D A ((wMd ca g (nI ln) (nI f) (nI kk) (nI gn) (nI (1 - co)) (nI kl) mtx ft wd t cc an al) ++ (wDk ca h tx kp (nI ln) (nI kk) (nI f) (nI gn) (nI kl) (nI co) e o me mo se so (nI (RT kk)) (nI a))) := hD
    have hv1 : v1 = -1 := hpo
    refine lv_aload_n hx hb dL_law_226 rfl (lv_at hl 1 rfl) ?_
    refine lv_aload_n hx hb dL_law_227 rfl (lv_at hl 3 rfl) ?_
    refine lv_iload_n hx hb dL_law_228 rfl (lv_at hl 0 rfl) ?_
    refine lv_iconst (v := nI 1) hx hb dL_law_229 (by decide) ?_
    refine n_add hx hb dL_law_230 ?_
    refine n_sld hx hb hX hbl hbA hS (show (5 * j) + 1 < L by omega) hL dL_law_231 ?_
    refine cVi (wr := wDk ca h tx kp (nI ln) (nI kk) (nI f) (nI gn) (nI kl) (nI co) e o me mo se so (nI (RT kk)) (nI a)) (As := [.int (xs ((5 * j) + 1))]) (rest := [.int v1]) ⟨hx, hb, hml, hown, hts⟩ (m_mclose_no l D ca g (nI ln) (nI kl) mtx ft wd t cc an al kk f gn wn i2 i3 i4 (xs (5 * j + 1)) hwn (1 - co) (by omega) (by omega)) (cwV 1 hts (lw_V q274 q275 q276 q15 q277) rfl rfl rfl (by decide +kernel) ⟨Nat.le_of_ble_eq_true rfl, Nat.le_of_ble_eq_true rfl⟩) hK hP hD hS hA [0, 1, 2, 3, 4, 5, 6, 7] [8, 9, 10, 11, 12, 13, 14, 15, 16, 17, 18, 19, 20, 21, 22] rfl rfl (by decide) (by decide) (by decide) 0 3 rfl rfl rfl (fun _ _ _ _ _ _ => trivial) (fun _ _ _ => trivial) rfl hl.1 rfl (Nat.le_of_ble_eq_true rfl) dL_law_232 ⟨Nat.le_of_ble_eq_true rfl, Nat.le_of_ble_eq_true rfl⟩ (fun v2 _ H locs hpo hP hD hS => ?_)
    have hP : va_P D vwCl ((wDk ca h tx kp (nI ln) (nI kk) (nI f) (nI gn) (nI kl) (nI co) e o me mo se so (nI (RT kk)) (nI a)) ++ (wMd ca g (nI ln) (nI f) (nI kk) (nI gn) (nI (1 - co)) (nI kl) mtx ft wd t cc an al)) H := hP
    have hD : va_D A ((wDk ca h tx kp (nI ln) (nI kk) (nI f) (nI gn) (nI kl) (nI co) e o me mo se so (nI (RT kk)) (nI a)) ++ (wMd ca g (nI ln) (nI f) (nI kk) (nI gn) (nI (1 - co)) (nI kl) mtx ft wd t cc an al)) := hD
    have hv2 : v2 = -1 := hpo
    refine lv_icmp_eq (tgt := 263) hx hb dL_law_235 (by decide) (fun hq => ?_) (fun hq => ?_)
    ·
      exact K H locs ls ⟨tx, kp, ln, kk, f, gn, kl, co, e, o, me, mo, se, so, a, mtx, ft, wd, t, cc, an, al, I, hP, hD, hS⟩ hl
    ·
      exact absurd (hv1.trans hv2.symm) hq
  ·
    by_cases hco : co = 0
    ·
      obtain ⟨hg0, ha, hrel⟩ := i9 hco
      have hg : gn + wn ≤ 4096 := by omega
      subst hco
      subst ha
      refine lv_aload_n hx hb dL_law_217 rfl (lv_at hl 2 rfl) ?_
      refine lv_aload_n hx hb dL_law_218 rfl (lv_at hl 3 rfl) ?_
      refine lv_iload_n hx hb dL_law_219 rfl (lv_at hl 0 rfl) ?_
      refine lv_iconst (v := nI 1) hx hb dL_law_220 (by decide) ?_
      refine n_add hx hb dL_law_221 ?_
      refine n_sld hx hb hX hbl hbA hS (show (5 * j) + 1 < L by omega) hL dL_law_222 ?_
      refine cVi (wr := wMd ca g (nI ln) (nI f) (nI kk) (nI gn) (nI (1 - 0)) (nI kl) mtx ft wd t cc an al) (As := [.int (xs ((5 * j) + 1))]) (rest := []) ⟨hx, hb, hml, hown, hts⟩ (m_dclose_open l D ca h t1 t2 tx kp (nI ln) (nI f) (nI kl) e o me mo se so kk gn wn i2 i4 (xs (5 * j + 1)) hwn (RT kk) (f % RT kk) hr1 hr0 (Nat.mod_lt _ hr1) (absL (RT kk) ft f) hrel hg) (cwV 1 hts (lw_V q177 q178 q179 q12 q180) rfl rfl rfl (by decide +kernel) ⟨Nat.le_of_ble_eq_true rfl, Nat.le_of_ble_eq_true rfl⟩) hK hP hD hS hA [0, 1, 2, 3, 4, 5, 6, 7, 8, 9, 10, 11, 12, 13, 14] [15, 16, 17, 18, 19, 20, 21, 22] rfl rfl (by decide) (by decide) (by decide) 0 0 rfl rfl rfl dkX.blind (dkX.at hdk hS (va_free (wc := wDk ca h tx kp (nI ln) (nI kk) (nI f) (nI gn) (nI kl) (nI 0) e o me mo se so (nI (RT kk)) (nI (f % RT kk))) hD hS hA [0, 1, 2, 3, 4, 5, 6, 7, 8, 9, 10, 11, 12, 13, 14] rfl)) rfl hl.1 rfl (Nat.le_of_ble_eq_true rfl) dL_law_223 ⟨Nat.le_of_ble_eq_true rfl, Nat.le_of_ble_eq_true rfl⟩ (fun v1 ⟨kp, k2, a2, e, o, me, mo, se, so⟩ H locs hpo hP hD hS => ?_)
      have hP : va_P D vwCl ((wMd ca g (nI ln) (nI f) (nI kk) (nI gn) (nI (1 - 0)) (nI kl) mtx ft wd t cc an al) ++ (wDk ca h tx kp (nI ln) (nI kk) (nI f) (nI (gn + wn)) (nI wn) (nI 1) e o me mo se so (nI (RT kk)) (nI a2))) H := hP
      have hD : va_D A ((wMd ca g (nI ln) (nI f) (nI kk) (nI gn) (nI (1 - 0)) (nI kl) mtx ft wd t cc an al) ++ (wDk ca h tx kp (nI ln) (nI kk) (nI f) (nI (gn + wn)) (nI wn) (nI 1) e o me mo se so (nI (RT kk)) (nI a2))) := hD
      obtain ⟨hv1, hk1, hk2, hk3, hk4⟩ := hpo
      refine lv_aload_n hx hb dL_law_226 rfl (lv_at hl 1 rfl) ?_
      refine lv_aload_n hx hb dL_law_227 rfl (lv_at hl 3 rfl) ?_
      refine lv_iload_n hx hb dL_law_228 rfl (lv_at hl 0 rfl) ?_
      refine lv_iconst (v := nI 1) hx hb dL_law_229 (by decide) ?_
      refine n_add hx hb dL_law_230 ?_
      refine n_sld hx hb hX hbl hbA hS (show (5 * j) + 1 < L by omega) hL dL_law_231 ?_
      refine cVi (wr := wDk ca h tx kp (nI ln) (nI kk) (nI f) (nI (gn + wn)) (nI wn) (nI 1) e o me mo se so (nI (RT kk)) (nI a2)) (As := [.int (xs ((5 * j) + 1))]) (rest := [.int v1]) ⟨hx, hb, hml, hown, hts⟩ (m_mclose l D ca g (nI ln) (nI kl) mtx ft wd t cc an al kk f gn wn i2 i3 i4 (xs (5 * j + 1)) hwn (1 - 0) (by omega) (by omega) (by omega)) (cwV 1 hts (lw_V q274 q275 q276 q15 q277) rfl rfl rfl (by decide +kernel) ⟨Nat.le_of_ble_eq_true rfl, Nat.le_of_ble_eq_true rfl⟩) hK hP hD hS hA [0, 1, 2, 3, 4, 5, 6, 7] [8, 9, 10, 11, 12, 13, 14, 15, 16, 17, 18, 19, 20, 21, 22] rfl rfl (by decide) (by decide) (by decide) 0 3 rfl rfl rfl (fun _ _ _ _ _ _ => trivial) (fun _ _ _ => trivial) rfl hl.1 rfl (Nat.le_of_ble_eq_true rfl) dL_law_232 ⟨Nat.le_of_ble_eq_true rfl, Nat.le_of_ble_eq_true rfl⟩ (fun v2 ⟨wd, t, cc, an, al⟩ H locs hpo hP hD hS => ?_)
      have hP : va_P D vwCl ((wDk ca h tx kp (nI ln) (nI kk) (nI f) (nI (gn + wn)) (nI wn) (nI 1) e o me mo se so (nI (RT kk)) (nI a2)) ++ (wMd ca g (nI ln) (nI f) (nI kk) (nI (gn + wn)) (nI (1 - 1)) (nI wn) mtx ft wd t cc an al)) H := hP
      have hD : va_D A ((wDk ca h tx kp (nI ln) (nI kk) (nI f) (nI (gn + wn)) (nI wn) (nI 1) e o me mo se so (nI (RT kk)) (nI a2)) ++ (wMd ca g (nI ln) (nI f) (nI kk) (nI (gn + wn)) (nI (1 - 1)) (nI wn) mtx ft wd t cc an al)) := hD
      obtain ⟨hv2, ha2⟩ := hpo
      refine lv_icmp_eq (tgt := 263) hx hb dL_law_235 (by decide) (fun hq => ?_) (fun hq => ?_)
      ·
        exact K H locs ls ⟨tx, kp, ln, kk, f, gn + wn, wn, 1, e, o, me, mo, se, so, a2, mtx, ft, wd, t, cc, an, al, I.closed (k' := k2) h255 hg (fun q hq => by rw [hg0]; exact hk1 q hq) ha2 (by rw [hg0]; exact hk2) hk3 hk4, hP, hD, hS⟩ hl
      ·
        exact absurd (hv1.trans hv2.symm) hq
    ·
      have hco1 : co = 1 := by omega
      obtain ⟨ha, k1, hka, hrel⟩ := i10 hco1
      have hg : gn + wn ≤ 4096 := by omega
      subst hco1
      refine lv_aload_n hx hb dL_law_217 rfl (lv_at hl 2 rfl) ?_
      refine lv_aload_n hx hb dL_law_218 rfl (lv_at hl 3 rfl) ?_
      refine lv_iload_n hx hb dL_law_219 rfl (lv_at hl 0 rfl) ?_
      refine lv_iconst (v := nI 1) hx hb dL_law_220 (by decide) ?_
      refine n_add hx hb dL_law_221 ?_
      refine n_sld hx hb hX hbl hbA hS (show (5 * j) + 1 < L by omega) hL dL_law_222 ?_
      refine cVi (wr := wMd ca g (nI ln) (nI f) (nI kk) (nI gn) (nI (1 - 1)) (nI kl) mtx ft wd t cc an al) (As := [.int (xs ((5 * j) + 1))]) (rest := []) ⟨hx, hb, hml, hown, hts⟩ (m_dclose_more l D ca h t1 t2 tx kp (nI ln) (nI f) (nI kl) e o me mo se so kk gn wn i2 i4 (xs (5 * j + 1)) hwn (RT kk) a k1 hr1 hr0 ha (ZZ kk ft f) hka hrel (by omega) hg) (cwV 1 hts (lw_V q177 q178 q179 q12 q180) rfl rfl rfl (by decide +kernel) ⟨Nat.le_of_ble_eq_true rfl, Nat.le_of_ble_eq_true rfl⟩) hK hP hD hS hA [0, 1, 2, 3, 4, 5, 6, 7, 8, 9, 10, 11, 12, 13, 14] [15, 16, 17, 18, 19, 20, 21, 22] rfl rfl (by decide) (by decide) (by decide) 0 0 rfl rfl rfl dkX.blind (dkX.at hdk hS (va_free (wc := wDk ca h tx kp (nI ln) (nI kk) (nI f) (nI gn) (nI kl) (nI 1) e o me mo se so (nI (RT kk)) (nI a)) hD hS hA [0, 1, 2, 3, 4, 5, 6, 7, 8, 9, 10, 11, 12, 13, 14] rfl)) rfl hl.1 rfl (Nat.le_of_ble_eq_true rfl) dL_law_223 ⟨Nat.le_of_ble_eq_true rfl, Nat.le_of_ble_eq_true rfl⟩ (fun v1 ⟨kp, k2, a2, e, o, me, mo, se, so⟩ H locs hpo hP hD hS => ?_)
      have hP : va_P D vwCl ((wMd ca g (nI ln) (nI f) (nI kk) (nI gn) (nI (1 - 1)) (nI kl) mtx ft wd t cc an al) ++ (wDk ca h tx kp (nI ln) (nI kk) (nI f) (nI (gn + wn)) (nI wn) (nI 1) e o me mo se so (nI (RT kk)) (nI a2))) H := hP
      have hD : va_D A ((wMd ca g (nI ln) (nI f) (nI kk) (nI gn) (nI (1 - 1)) (nI kl) mtx ft wd t cc an al) ++ (wDk ca h tx kp (nI ln) (nI kk) (nI f) (nI (gn + wn)) (nI wn) (nI 1) e o me mo se so (nI (RT kk)) (nI a2))) := hD
      obtain ⟨hv1, hk1, hk2, hk3, hk4⟩ := hpo
      refine lv_aload_n hx hb dL_law_226 rfl (lv_at hl 1 rfl) ?_
      refine lv_aload_n hx hb dL_law_227 rfl (lv_at hl 3 rfl) ?_
      refine lv_iload_n hx hb dL_law_228 rfl (lv_at hl 0 rfl) ?_
      refine lv_iconst (v := nI 1) hx hb dL_law_229 (by decide) ?_
      refine n_add hx hb dL_law_230 ?_
      refine n_sld hx hb hX hbl hbA hS (show (5 * j) + 1 < L by omega) hL dL_law_231 ?_
      refine cVi (wr := wDk ca h tx kp (nI ln) (nI kk) (nI f) (nI (gn + wn)) (nI wn) (nI 1) e o me mo se so (nI (RT kk)) (nI a2)) (As := [.int (xs ((5 * j) + 1))]) (rest := [.int v1]) ⟨hx, hb, hml, hown, hts⟩ (m_mclose l D ca g (nI ln) (nI kl) mtx ft wd t cc an al kk f gn wn i2 i3 i4 (xs (5 * j + 1)) hwn (1 - 1) (by omega) (by omega) (by omega)) (cwV 1 hts (lw_V q274 q275 q276 q15 q277) rfl rfl rfl (by decide +kernel) ⟨Nat.le_of_ble_eq_true rfl, Nat.le_of_ble_eq_true rfl⟩) hK hP hD hS hA [0, 1, 2, 3, 4, 5, 6, 7] [8, 9, 10, 11, 12, 13, 14, 15, 16, 17, 18, 19, 20, 21, 22] rfl rfl (by decide) (by decide) (by decide) 0 3 rfl rfl rfl (fun _ _ _ _ _ _ => trivial) (fun _ _ _ => trivial) rfl hl.1 rfl (Nat.le_of_ble_eq_true rfl) dL_law_232 ⟨Nat.le_of_ble_eq_true rfl, Nat.le_of_ble_eq_true rfl⟩ (fun v2 ⟨wd, t, cc, an, al⟩ H locs hpo hP hD hS => ?_)
      have hP : va_P D vwCl ((wDk ca h tx kp (nI ln) (nI kk) (nI f) (nI (gn + wn)) (nI wn) (nI 1) e o me mo se so (nI (RT kk)) (nI a2)) ++ (wMd ca g (nI ln) (nI f) (nI kk) (nI (gn + wn)) (nI (1 - 1)) (nI wn) mtx ft wd t cc an al)) H := hP
      have hD : va_D A ((wDk ca h tx kp (nI ln) (nI kk) (nI f) (nI (gn + wn)) (nI wn) (nI 1) e o me mo se so (nI (RT kk)) (nI a2)) ++ (wMd ca g (nI ln) (nI f) (nI kk) (nI (gn + wn)) (nI (1 - 1)) (nI wn) mtx ft wd t cc an al)) := hD
      obtain ⟨hv2, ha2⟩ := hpo
      refine lv_icmp_eq (tgt := 263) hx hb dL_law_235 (by decide) (fun hq => ?_) (fun hq => ?_)
      ·
        exact K H locs ls ⟨tx, kp, ln, kk, f, gn + wn, wn, 1, e, o, me, mo, se, so, a2, mtx, ft, wd, t, cc, an, al, I.closed (k' := k2) h255 hg hk1 ha2 hk2 hk3 hk4, hP, hD, hS⟩ hl
      ·
        exact absurd (hv1.trans hv2.symm) hq
set_option maxHeartbeats 1000000 in
set_option maxRecDepth 100000 in
theorem law_answer (F : Fix p m c cL_law 4 s #[Value.ref b] R_law A D ca) (hX : va_X b L xs s s.heap) (hbl : b < s.heap.size) (hbA : ¬ A b) (hL : L ≤ 320) (hdk : dkX t1 t2 A s) (j : Nat) (hj : 5 * j + 5 ≤ L)
    (K : ∀ (H : Heap) (locs : List Loc) (ls : Array Slot), LSt D ca h g A s H locs → lv_has ls 4 [(3, .int (nI (5 * j))), (2, .ref (g 0)), (1, .ref (h 12)), (0, .ref b)] → W p l en room_1 s m #[Value.ref b] below meth c H locs 23 13353 Q (F0 m 263 ls [])) :
    ∀ (H : Heap) (locs : List Loc) (ls : Array Slot), LSt D ca h g A s H locs → lv_has ls 4 [(3, .int (nI (5 * j))), (2, .ref (g 0)), (1, .ref (h 12)), (0, .ref b)] → W p l en room_1 s m #[Value.ref b] below meth c H locs 23 13353 Q (F0 m 240 ls []) := by
  obtain ⟨hx, hb, hml, hown, hts, hA, hK⟩ := F
  intro H locs ls hst hl
  obtain ⟨tx, kp, ln, kk, f, gn, kl, co, e, o, me, mo, se, so, a, mtx, ft, wd, t, cc, an, al, I, hP, hD, hS⟩ := hst
  obtain ⟨i1, i2, i3, i4, i5, i6, i7, i8, i9, i10⟩ := id I
  have hP : va_P D vwCl ((wDk ca h tx kp (nI ln) (nI kk) (nI f) (nI gn) (nI kl) (nI co) e o me mo se so (nI (RT kk)) (nI a)) ++ (wMd ca g (nI ln) (nI f) (nI kk) (nI gn) (nI (1 - co)) (nI kl) mtx ft wd t cc an al)) H := hP
  have hD : va_D A ((wDk ca h tx kp (nI ln) (nI kk) (nI f) (nI gn) (nI kl) (nI co) e o me mo se so (nI (RT kk)) (nI a)) ++ (wMd ca g (nI ln) (nI f) (nI kk) (nI gn) (nI (1 - co)) (nI kl) mtx ft wd t cc an al)) := hD
  refine lv_aload_n hx hb dL_law_240 rfl (lv_at hl 2 rfl) ?_
  refine lv_aload_n hx hb dL_law_241 rfl (lv_at hl 3 rfl) ?_
  refine lv_iload_n hx hb dL_law_242 rfl (lv_at hl 0 rfl) ?_
  refine lv_iconst (v := nI 1) hx hb dL_law_243 (by decide) ?_
  refine n_add hx hb dL_law_244 ?_
  refine n_sld hx hb hX hbl hbA hS (show (5 * j) + 1 < L by omega) hL dL_law_245 ?_
  refine cVi (wr := wMd ca g (nI ln) (nI f) (nI kk) (nI gn) (nI (1 - co)) (nI kl) mtx ft wd t cc an al) (As := [.int (xs ((5 * j) + 1))]) (rest := []) ⟨hx, hb, hml, hown, hts⟩ (m_danswer l D ca h tx kp (nI ln) (nI kk) (nI f) (nI gn) (nI co) e o me mo se so (nI (RT kk)) (nI a) kl i5 (xs (5 * j + 1))) (cwV 1 hts (lw_V q194 q195 q196 q12 q197) rfl rfl rfl (by decide +kernel) ⟨Nat.le_of_ble_eq_true rfl, Nat.le_of_ble_eq_true rfl⟩) hK hP hD hS hA [0, 1, 2, 3, 4, 5, 6, 7, 8, 9, 10, 11, 12, 13, 14] [15, 16, 17, 18, 19, 20, 21, 22] rfl rfl (by decide) (by decide) (by decide) 0 0 rfl rfl rfl (fun _ _ _ _ _ _ => trivial) (fun _ _ _ => trivial) rfl hl.1 rfl (Nat.le_of_ble_eq_true rfl) dL_law_246 ⟨Nat.le_of_ble_eq_true rfl, Nat.le_of_ble_eq_true rfl⟩ (fun v1 _ H locs hpo hP hD hS => ?_)
  have hP : va_P D vwCl ((wMd ca g (nI ln) (nI f) (nI kk) (nI gn) (nI (1 - co)) (nI kl) mtx ft wd t cc an al) ++ (wDk ca h tx kp (nI ln) (nI kk) (nI f) (nI gn) (nI kl) (nI co) e o me mo se so (nI (RT kk)) (nI a))) H := hP
  have hD : va_D A ((wMd ca g (nI ln) (nI f) (nI kk) (nI gn) (nI (1 - co)) (nI kl) mtx ft wd t cc an al) ++ (wDk ca h tx kp (nI ln) (nI kk) (nI f) (nI gn) (nI kl) (nI co) e o me mo se so (nI (RT kk)) (nI a))) := hD
  have hv1 : v1 = if kl = 0 then -1 else kp (cut (xs (5 * j + 1)) % kl) &&& nI 255 := hpo
  refine lv_aload_n hx hb dL_law_249 rfl (lv_at hl 1 rfl) ?_
  refine lv_aload_n hx hb dL_law_250 rfl (lv_at hl 3 rfl) ?_
  refine lv_iload_n hx hb dL_law_251 rfl (lv_at hl 0 rfl) ?_
  refine lv_iconst (v := nI 1) hx hb dL_law_252 (by decide) ?_
  refine n_add hx hb dL_law_253 ?_
  refine n_sld hx hb hX hbl hbA hS (show (5 * j) + 1 < L by omega) hL dL_law_254 ?_
  refine cVi (wr := wDk ca h tx kp (nI ln) (nI kk) (nI f) (nI gn) (nI kl) (nI co) e o me mo se so (nI (RT kk)) (nI a)) (As := [.int (xs ((5 * j) + 1))]) (rest := [.int v1]) ⟨hx, hb, hml, hown, hts⟩ (m_manswer l D ca g (nI ln) (nI f) (nI kk) (nI gn) (nI (1 - co)) mtx ft wd t cc an al kl i5 (xs (5 * j + 1))) (cwV 1 hts (lw_V q297 q298 q299 q15 q300) rfl rfl rfl (by decide +kernel) ⟨Nat.le_of_ble_eq_true rfl, Nat.le_of_ble_eq_true rfl⟩) hK hP hD hS hA [0, 1, 2, 3, 4, 5, 6, 7] [8, 9, 10, 11, 12, 13, 14, 15, 16, 17, 18, 19, 20, 21, 22] rfl rfl (by decide) (by decide) (by decide) 0 3 rfl rfl rfl (fun _ _ _ _ _ _ => trivial) (fun _ _ _ => trivial) rfl hl.1 rfl (Nat.le_of_ble_eq_true rfl) dL_law_255 ⟨Nat.le_of_ble_eq_true rfl, Nat.le_of_ble_eq_true rfl⟩ (fun v2 _ H locs hpo hP hD hS => ?_)
  have hP : va_P D vwCl ((wDk ca h tx kp (nI ln) (nI kk) (nI f) (nI gn) (nI kl) (nI co) e o me mo se so (nI (RT kk)) (nI a)) ++ (wMd ca g (nI ln) (nI f) (nI kk) (nI gn) (nI (1 - co)) (nI kl) mtx ft wd t cc an al)) H := hP
  have hD : va_D A ((wDk ca h tx kp (nI ln) (nI kk) (nI f) (nI gn) (nI kl) (nI co) e o me mo se so (nI (RT kk)) (nI a)) ++ (wMd ca g (nI ln) (nI f) (nI kk) (nI gn) (nI (1 - co)) (nI kl) mtx ft wd t cc an al)) := hD
  have hv2 : v2 = if kl = 0 then -1 else an (cut (xs (5 * j + 1)) % kl) := hpo
  have hvv : v1 = v2 := by
    rw [hv1, hv2]
    by_cases h0 : kl = 0
    · rw [if_pos h0, if_pos h0]
    · rw [if_neg h0, if_neg h0]; exact i8 _ (Nat.mod_lt _ (by omega))
  refine lv_icmp_eq (tgt := 263) hx hb dL_law_258 (by decide) (fun hq => ?_) (fun hq => ?_)
  ·
    exact K H locs ls ⟨tx, kp, ln, kk, f, gn, kl, co, e, o, me, mo, se, so, a, mtx, ft, wd, t, cc, an, al, I, hP, hD, hS⟩ hl
  ·
    exact absurd (hvv) hq
end LAW1
end
section
/-! the law: its loop -/
theorem LSt.S {D : va_G} {ca : Nat → ClassId} {h g : Nat → Nat} {A : Nat → Prop} {s : State} {H : Heap} {locs : List Loc} (hst : LSt D ca h g A s H locs) : va_S A s.heap H locs := by
  obtain ⟨tx, kp, ln, kk, f, gn, kl, co, e, o, me, mo, se, so, a, mtx, ft, wd, t, cc, an, al, I, hP, hD, hS⟩ := hst
  exact hS
theorem arrK {args : Array Value} {s : State} {ty : FieldType} (h : (Cond.arrayClass ty).before args s = true) : ∃ cA, ArrOfT s cA ty ∧ s.vm.findClass ("[" ++ ty.toString) = some cA := by
  obtain ⟨cA, kA, comp, hf, hk, hkind⟩ := Cond.arrayClass_spec h
  exact ⟨cA, fun n z => ⟨fun k h => (by cases h), kA, hk, comp, hkind⟩, hf⟩
section LAW2
variable {p : Program} {l : Launch} {en : Env} {s : State} {m : MethodId} {below : List Frame} {meth : Method} {c : Code} {D : va_G} {ca : Nat → ClassId} {A : Nat → Prop} {h g : Nat → Nat} {b L : Nat} {xs : Nat → Int32} {t1 t2 : Nat}
set_option maxHeartbeats 1000000 in
set_option maxRecDepth 100000 in
theorem law_loop (F : Fix p m c cL_law 4 s #[Value.ref b] R_law A D ca) (hr : meth.sig.returnType = ret) (hlk : meth.locks = false) (hX : va_X b L xs s s.heap) (hbl : b < s.heap.size) (hAs : ∀ q, A q → s.heap.size ≤ q) (hL : L ≤ 320) (hdk : dkX t1 t2 A s) :
    ∀ (n j : Nat), j ≤ 64 → 65 ≤ j + n → ∀ (H : Heap) (locs : List Loc) (ls : Array Slot), LSt D ca h g A s H locs → lv_has ls 4 [(3, .int (nI (5 * j))), (2, .ref (g 0)), (1, .ref (h 12)), (0, .ref b)] → W p l en room_1 s m #[Value.ref b] below meth c H locs 23 13353 (lw_Z below #[Value.ref b] s) (F0 m 18 ls []) := by
  have F1 := F
  obtain ⟨hx, hb, hml, hown, hts, hA, hK⟩ := F
  have hbA : ¬ A b := fun q => absurd (hAs b q) (Nat.not_le.mpr hbl)
  intro n
  induction n with
  | zero => intro j h1 h2; omega
  | succ n ih =>
    intro j hi hn H locs ls hst hl
    have hS := hst.S
    refine lv_iload_n hx hb dL_law_18 rfl (lv_at hl 0 rfl) ?_
    refine lv_aload_n hx hb dL_law_19 rfl (lv_at hl 3 rfl) ?_
    refine va_slen hx hb hX hbl hbA hS dL_law_20 ?_
    refine tpi (y := nI L) rfl ?_
    refine lv_iconst (v := nI 5) hx hb dL_law_21 (by decide) ?_
    refine lv_isub hx hb dL_law_22 ?_
    refine lv_icmp_gt (tgt := 269) hx hb dL_law_23 (by decide) (fun hgt => ?_) (fun hgt => ?_)
    ·
      refine lv_iconst (v := 1) hx hb dL_law_269 (by decide) ?_
      refine W.widen (k := 600000) (n := 7290000) (Nat.le_of_ble_eq_true rfl) (Nat.le_of_ble_eq_true rfl) ?_
      refine va_forget (fun q hq => hAs _ (hS.2.2 q hq)) ?_
      exact lw_ret hx hb hr hlk dL_law_270
    ·
      have hgo := law_go hL hi hgt
      have hnext : ∀ (H : Heap) (locs : List Loc) (ls : Array Slot), LSt D ca h g A s H locs → lv_has ls 4 [(3, .int (nI (5 * j))), (2, .ref (g 0)), (1, .ref (h 12)), (0, .ref b)] → W p l en room_1 s m #[Value.ref b] below meth c H locs 23 13353 (lw_Z below #[Value.ref b] s) (F0 m 263 ls []) := by
        intro H locs ls hst hl
        refine lv_iinc (v := nI (5 * (j + 1))) (lv' := [(3, .int (nI (5 * (j + 1)))), (2, .ref (g 0)), (1, .ref (h 12)), (0, .ref b)]) hx hb dL_law_263 hl (k := 0) rfl ((nI_add _ 5).trans (congrArg nI (by omega))) (by decide) rfl (fun ls hl => ?_)
        refine lv_goto (tgt := 18) hx hb dL_law_266 (by decide) ?_
        exact ih (j + 1) (by omega) (by omega) H locs ls hst hl
      refine lv_aload_n hx hb dL_law_26 rfl (lv_at hl 3 rfl) ?_
      refine lv_iload_n hx hb dL_law_27 rfl (lv_at hl 0 rfl) ?_
      refine n_sld hx hb hX hbl hbA hS (show 5 * j < L by omega) hL dL_law_28 ?_
      refine lv_bipush (v := nI 7) hx hb dL_law_29 (by decide) ?_
      refine lv_iand hx hb dL_law_31 ?_
      obtain ⟨d, hd, ed⟩ := pk_andE (xs (5 * j)) (m := nI 7) 3 (by decide)
      refine tpi (y := nI d) ed ?_
      rcases (show d = 0 ∨ d = 1 ∨ d = 2 ∨ d = 3 ∨ d = 4 ∨ d = 5 ∨ d = 6 ∨ d = 7 by omega) with rfl | rfl | rfl | rfl | rfl | rfl | rfl | rfl
      · refine lv_tableIn (tgt := 76) (off := 44) hx hb dL_law_32 (by decide) (by decide) (by decide) (by decide) ?_
        exact law_put F1 hX hbl hbA hL hdk j hgo hnext H locs ls hst hl
      · refine lv_tableIn (tgt := 129) (off := 97) hx hb dL_law_32 (by decide) (by decide) (by decide) (by decide) ?_
        exact law_trim F1 hX hbl hbA hL hdk j hgo hnext H locs ls hst hl
      · refine lv_tableIn (tgt := 150) (off := 118) hx hb dL_law_32 (by decide) (by decide) (by decide) (by decide) ?_
        exact law_size F1 hX hbl hbA hL hdk j hgo hnext H locs ls hst hl
      · refine lv_tableIn (tgt := 163) (off := 131) hx hb dL_law_32 (by decide) (by decide) (by decide) (by decide) ?_
        exact law_begin F1 hX hbl hbA hL hdk j hgo hnext H locs ls hst hl
      · refine lv_tableIn (tgt := 184) (off := 152) hx hb dL_law_32 (by decide) (by decide) (by decide) (by decide) ?_
        exact law_feed F1 hX hbl hbA hL hdk j hgo hnext H locs ls hst hl
      · refine lv_tableIn (tgt := 217) (off := 185) hx hb dL_law_32 (by decide) (by decide) (by decide) (by decide) ?_
        exact law_close F1 hX hbl hbA hL hdk j hgo hnext H locs ls hst hl
      · refine lv_tableIn (tgt := 240) (off := 208) hx hb dL_law_32 (by decide) (by decide) (by decide) (by decide) ?_
        exact law_answer F1 hX hbl hbA hL hdk j hgo hnext H locs ls hst hl
      · refine lv_tableOut (tgt := 263) hx hb dL_law_32 (by decide) (by decide) ?_
        exact hnext H locs ls hst hl
end LAW2
end
section
/-! the law from its entry; the claim (behind whole_start: rows of kit/laws/SKELETON.whole) -/
set_option maxHeartbeats 1000000 in
set_option maxRecDepth 100000 in
theorem whole_start {p : Program} {e : Env} {s : State} {m : MethodId} {below : List Frame} {meth : Method} {c : Code} (l : Launch) {b L : Nat} {xs : Nat → Int32} (hL : L ≤ 320) (C0 : lw_At p s m meth c b L xs) : W p l e room_1 s m #[Value.ref b] below meth c s.heap [] 0 0 (lw_Z below #[Value.ref b] s) (entryFrame m ([Value.ref b] : List Value).toArray 4) := by
  obtain ⟨hx, hb, hr, hml, hown, hts0, hX, hbl, hlocks, hgv⟩ := id C0
  have hts : ∀ w ∈ lw_all, w.before #[Value.ref b] s = true := fun w h => hts0 w (lw_all_tbl h)
  obtain ⟨A, hAe⟩ : ∃ A : Nat → Prop, A = fun q => s.heap.size ≤ q := ⟨_, rfl⟩
  have hA : ∀ q : Nat, s.heap.size ≤ q → A q := fun q h => by rw [hAe]; exact h
  have hAs : ∀ q : Nat, A q → s.heap.size ≤ q := fun q h => by rw [hAe] at h; exact h
  have hAn : ∀ a : Nat, a < s.heap.size → ¬ A a := fun a h q => absurd (hAs a q) (Nat.not_le.mpr h)
  obtain ⟨c0_, iS0, hKn0⟩ := u_known (C := RX0) (T := TX0) (N := 9) (n := 9) hts0 (fun w h => lw_all_tbl (in_X0 w h)) (hts _ q18)
  obtain ⟨c1_, iS1, hKn1⟩ := u_known (C := RX1) (T := TX1) (N := 9) (n := 9) hts0 (fun w h => lw_all_tbl (in_X1 w h)) (hts _ q26)
  obtain ⟨c2_, iS2, hKn2⟩ := u_known (C := RX2) (T := TX2) (N := 4) (n := 4) hts0 (fun w h => lw_all_tbl (in_X2 w h)) (hts _ q32)
  obtain ⟨c3_, iS3, hKn3⟩ := u_known (C := RX3) (T := TX3) (N := 13) (n := 13) hts0 (fun w h => lw_all_tbl (in_X3 w h)) (hts _ q199)
  obtain ⟨a0_, hA0, hR0⟩ := arrK (ty := .int) (hts _ q55)
  obtain ⟨a1_, hA1, hR1⟩ := arrK (ty := .byte) (hts _ q54)
  obtain ⟨a2_, hA2, hR2⟩ := arrK (ty := .long) (hts _ q244)
  obtain ⟨D, ca, hK⟩ : ∃ (D : va_G) (ca : Nat → ClassId), va_K D vwCl (tyl ca) s := by
    refine ⟨(fun k => if k = 0 then c0_ else if k = 1 then c1_ else if k = 2 then c2_ else c3_, fun k => if k = 0 then iS0 else if k = 1 then iS1 else if k = 2 then iS2 else iS3), fun k => if k = 0 then a0_ else if k = 1 then a1_ else a2_, ?_, ?_⟩
    · intro k q hq
      match k, hq with
      | 0, hq => cases hq; exact hKn0
      | 1, hq => cases hq; exact hKn1
      | 2, hq => cases hq; exact hKn2
      | 3, hq => cases hq; exact hKn3
      | k + 4, hq => simp [vwCl] at hq
    · intro k q hq
      match k, hq with
      | 0, hq => cases hq; exact ⟨hA0, hR0⟩
      | 1, hq => cases hq; exact ⟨hA1, hR1⟩
      | 2, hq => cases hq; exact ⟨hA2, hR2⟩
      | k + 3, hq => simp [tyl] at hq
  have hs := flat_of_before _ hgv
  obtain ⟨t1, het1, hTt1⟩ := va_Tof (args := #[Value.ref b]) (s := s) (tm := (.static "SpongeDesk" "RATES" "[I")) (ty := .int) (N := 6) (f := fun j => .int (nI (RT j))) (A := A) (by decide) (hs (.arrayOf (.static "SpongeDesk" "RATES" "[I") .int) (by decide +kernel)) (va_eqt (hs (.eq (.length (.static "SpongeDesk" "RATES" "[I")) (.int 6)) (by decide +kernel))) (fun j hj => by
    rcases (show j = 0 ∨ j = 1 ∨ j = 2 ∨ j = 3 ∨ j = 4 ∨ j = 5 by omega) with rfl | rfl | rfl | rfl | rfl | rfl
    · exact va_eqt (hs (.eq (.elem (.static "SpongeDesk" "RATES" "[I") (.int 0)) (.int 144)) (by decide +kernel))
    · exact va_eqt (hs (.eq (.elem (.static "SpongeDesk" "RATES" "[I") (.int 1)) (.int 136)) (by decide +kernel))
    · exact va_eqt (hs (.eq (.elem (.static "SpongeDesk" "RATES" "[I") (.int 2)) (.int 104)) (by decide +kernel))
    · exact va_eqt (hs (.eq (.elem (.static "SpongeDesk" "RATES" "[I") (.int 3)) (.int 72)) (by decide +kernel))
    · exact va_eqt (hs (.eq (.elem (.static "SpongeDesk" "RATES" "[I") (.int 4)) (.int 168)) (by decide +kernel))
    · exact va_eqt (hs (.eq (.elem (.static "SpongeDesk" "RATES" "[I") (.int 5)) (.int 136)) (by decide +kernel))) hAn
  have hZt1 := va_Zref (A := A) (hts0 _ q93) (hts _ q12) het1 hAn
  obtain ⟨t2, het2, hTt2⟩ := va_Tof (args := #[Value.ref b]) (s := s) (tm := (.static "SpongeDesk" "SUMS" "[I")) (ty := .int) (N := 4) (f := fun j => .int (nI (SU j))) (A := A) (by decide) (hs (.arrayOf (.static "SpongeDesk" "SUMS" "[I") .int) (by decide +kernel)) (va_eqt (hs (.eq (.length (.static "SpongeDesk" "SUMS" "[I")) (.int 4)) (by decide +kernel))) (fun j hj => by
    rcases (show j = 0 ∨ j = 1 ∨ j = 2 ∨ j = 3 by omega) with rfl | rfl | rfl | rfl
    · exact va_eqt (hs (.eq (.elem (.static "SpongeDesk" "SUMS" "[I") (.int 0)) (.int 28)) (by decide +kernel))
    · exact va_eqt (hs (.eq (.elem (.static "SpongeDesk" "SUMS" "[I") (.int 1)) (.int 32)) (by decide +kernel))
    · exact va_eqt (hs (.eq (.elem (.static "SpongeDesk" "SUMS" "[I") (.int 2)) (.int 48)) (by decide +kernel))
    · exact va_eqt (hs (.eq (.elem (.static "SpongeDesk" "SUMS" "[I") (.int 3)) (.int 64)) (by decide +kernel))) hAn
  have hZt2 := va_Zref (A := A) (hts0 _ q182) (hts _ q12) het2 hAn
  have hdk : dkX t1 t2 A s := ⟨hZt1, hTt1, hZt2, hTt2, va_Nw.of rfl (hts0 _ q27)⟩
  have hS : va_S A s.heap s.heap [] := va_S.rf
  have hP : va_P D vwCl [] s.heap := fun k q h => by simp at h
  have hD : va_D A [] := ⟨fun i j p q h => by simp at h, fun k q h => by simp at h⟩
  have hl := lv_entry ([.ref b]) (n := 4) (Nat.le_of_ble_eq_true rfl)
  rw [lg_entry_eq]
  generalize (lg_sl ([.ref b]) ++ List.replicate (4 - (lg_sl ([.ref b])).length) Slot.unset).toArray = ls at hl ⊢
  have hl : lv_has ls 4 [(0, .ref b)] := hl
  refine va_new (ci := 0) (fs := [.null, .null, .null, .int 0, .int 0, .int 0, .int 0, .int 0, .int 0]) (C := RX0) (T := TX0) (N := 9) hx hb hts in_X0 tyX0 tyX0_ok hown (hts _ q17) (hts _ q18) (hts _ q12) hK hP hD hS hA rfl (fun j hj => by rcases (show j = 0 ∨ j = 1 ∨ j = 2 ∨ j = 3 ∨ j = 4 ∨ j = 5 ∨ j = 6 ∨ j = 7 ∨ j = 8 by omega) with rfl | rfl | rfl | rfl | rfl | rfl | rfl | rfl | rfl <;> rfl) (Nat.le_of_ble_eq_true rfl) (Nat.le_of_ble_eq_true rfl) dL_law_0 (fun d0 H hP hD hS => ?_)
  have hP : va_P D vwCl ([(d0, .inr (0, [.null, .null, .null, .int 0, .int 0, .int 0, .int 0, .int 0, .int 0]))]) H := hP
  have hD : va_D A ([(d0, .inr (0, [.null, .null, .null, .int 0, .int 0, .int 0, .int 0, .int 0, .int 0]))]) := hD
  refine lv_dup hx hb dL_law_3 rfl ?_
  refine cIv (wr := []) (As := []) (rest := [.ref d0]) ⟨hx, hb, hml, hown, hts⟩ (m_dinit l D ca d0 t1 t2) (cwI 0 hts (lw_meth q21) rfl rfl rfl (hts _ q12) (hts _ q19) (hts _ q20) rfl (by decide +kernel) ⟨Nat.le_of_ble_eq_true rfl, Nat.le_of_ble_eq_true rfl⟩) hK hP hD hS hA [0] [] rfl rfl (by decide) (by decide) (by decide) dkX.blind (dkX.at hdk hS (va_free (wc := [(d0, .inr (0, [.null, .null, .null, .int 0, .int 0, .int 0, .int 0, .int 0, .int 0]))]) hD hS hA [0] rfl)) rfl hl.1 rfl (Nat.le_of_ble_eq_true rfl) dL_law_4 ⟨Nat.le_of_ble_eq_true rfl, Nat.le_of_ble_eq_true rfl⟩ (fun hh H locs hpo hP hD hS => ?_)
  have hP : va_P D vwCl (wDk ca hh (fun _ => 0) (fun _ => 0) 0 (nI 0) (nI 0) (nI 0) (nI 0) (nI 0) (fun _ => 0) (fun _ => 0) (fun _ => 0) (fun _ => 0) (fun _ => 0) (fun _ => 0) (nI (RT 0)) (nI 0)) H := hP
  have hD : va_D A (wDk ca hh (fun _ => 0) (fun _ => 0) 0 (nI 0) (nI 0) (nI 0) (nI 0) (nI 0) (fun _ => 0) (fun _ => 0) (fun _ => 0) (fun _ => 0) (fun _ => 0) (fun _ => 0) (nI (RT 0)) (nI 0)) := hD
  have hpo : hh 12 = d0 := hpo
  refine W.eq (g2 := F0 m 7 ls [.ref (hh 12)]) (by rw [hpo]) ?_
  refine lv_astore_n (lv' := [(1, .ref (hh 12)), (0, .ref b)]) hx hb dL_law_7 rfl hl (by decide) rfl (fun ls hl => ?_)
  refine va_new (ci := 3) (fs := [.null, .int 0, .null, .int 0, .int 0, .int 0, .int 0, .null, .null, .null, .null, .int 0, .null]) (C := RX3) (T := TX3) (N := 13) hx hb hts in_X3 tyX3 tyX3_ok hown (hts _ q198) (hts _ q199) (hts _ q15) hK hP hD hS hA rfl (fun j hj => by rcases (show j = 0 ∨ j = 1 ∨ j = 2 ∨ j = 3 ∨ j = 4 ∨ j = 5 ∨ j = 6 ∨ j = 7 ∨ j = 8 ∨ j = 9 ∨ j = 10 ∨ j = 11 ∨ j = 12 by omega) with rfl | rfl | rfl | rfl | rfl | rfl | rfl | rfl | rfl | rfl | rfl | rfl | rfl <;> rfl) (Nat.le_of_ble_eq_true rfl) (Nat.le_of_ble_eq_true rfl) dL_law_8 (fun m0 H hP hD hS => ?_)
  have hP : va_P D vwCl (wDk ca hh (fun _ => 0) (fun _ => 0) 0 (nI 0) (nI 0) (nI 0) (nI 0) (nI 0) (fun _ => 0) (fun _ => 0) (fun _ => 0) (fun _ => 0) (fun _ => 0) (fun _ => 0) (nI (RT 0)) (nI 0) ++ [(m0, .inr (3, [.null, .int 0, .null, .int 0, .int 0, .int 0, .int 0, .null, .null, .null, .null, .int 0, .null]))]) H := hP
  have hD : va_D A (wDk ca hh (fun _ => 0) (fun _ => 0) 0 (nI 0) (nI 0) (nI 0) (nI 0) (nI 0) (fun _ => 0) (fun _ => 0) (fun _ => 0) (fun _ => 0) (fun _ => 0) (fun _ => 0) (nI (RT 0)) (nI 0) ++ [(m0, .inr (3, [.null, .int 0, .null, .int 0, .int 0, .int 0, .int 0, .null, .null, .null, .null, .int 0, .null]))]) := hD
  refine lv_dup hx hb dL_law_11 rfl ?_
  refine cIv (wr := (wDk ca hh (fun _ => 0) (fun _ => 0) 0 (nI 0) (nI 0) (nI 0) (nI 0) (nI 0) (fun _ => 0) (fun _ => 0) (fun _ => 0) (fun _ => 0) (fun _ => 0) (fun _ => 0) (nI (RT 0)) (nI 0))) (As := []) (rest := [.ref m0]) ⟨hx, hb, hml, hown, hts⟩ (m_minit l D ca m0) (cwI 0 hts (lw_meth q202) rfl rfl rfl (hts _ q15) (hts _ q200) (hts _ q201) rfl (by decide +kernel) ⟨Nat.le_of_ble_eq_true rfl, Nat.le_of_ble_eq_true rfl⟩) hK hP hD hS hA [15] [0, 1, 2, 3, 4, 5, 6, 7, 8, 9, 10, 11, 12, 13, 14] rfl rfl (by decide) (by decide) (by decide) (fun _ _ _ _ _ _ => trivial) (fun _ _ _ => trivial) rfl hl.1 rfl (Nat.le_of_ble_eq_true rfl) dL_law_12 ⟨Nat.le_of_ble_eq_true rfl, Nat.le_of_ble_eq_true rfl⟩ (fun gg H locs hpo hP hD hS => ?_)
  have hP : va_P D vwCl (wDk ca hh (fun _ => 0) (fun _ => 0) 0 (nI 0) (nI 0) (nI 0) (nI 0) (nI 0) (fun _ => 0) (fun _ => 0) (fun _ => 0) (fun _ => 0) (fun _ => 0) (fun _ => 0) (nI (RT 0)) (nI 0) ++ wMd ca gg 0 0 0 0 (nI 1) 0 (fun _ => 0) (fun _ => 0) (fun _ => 0) (fun _ => 0) (fun _ => 0) (fun _ => 0) (fun _ => 0)) H := hP
  have hD : va_D A (wDk ca hh (fun _ => 0) (fun _ => 0) 0 (nI 0) (nI 0) (nI 0) (nI 0) (nI 0) (fun _ => 0) (fun _ => 0) (fun _ => 0) (fun _ => 0) (fun _ => 0) (fun _ => 0) (nI (RT 0)) (nI 0) ++ wMd ca gg 0 0 0 0 (nI 1) 0 (fun _ => 0) (fun _ => 0) (fun _ => 0) (fun _ => 0) (fun _ => 0) (fun _ => 0) (fun _ => 0)) := hD
  have hpo : gg 0 = m0 := hpo
  refine W.eq (g2 := F0 m 15 ls [.ref (gg 0)]) (by rw [hpo]) ?_
  refine lv_astore_n (lv' := [(2, .ref (gg 0)), (1, .ref (hh 12)), (0, .ref b)]) hx hb dL_law_15 rfl hl (by decide) rfl (fun ls hl => ?_)
  refine lv_iconst (v := nI 0) hx hb dL_law_16 (by decide) ?_
  refine tpi (y := nI (5 * 0)) (rfl) ?_
  refine lv_istore_n (lv' := [(3, .int (nI (5 * 0))), (2, .ref (gg 0)), (1, .ref (hh 12)), (0, .ref b)]) hx hb dL_law_17 rfl hl (by decide) rfl (fun ls hl => ?_)
  refine W.widen (k := 23) (n := 13353) (Nat.le_of_ble_eq_true rfl) (Nat.le_of_ble_eq_true rfl) ?_
  exact law_loop (t1 := t1) (t2 := t2) ⟨hx, hb, hml, hown, hts, hA, hK⟩ hr hlocks hX hbl hAs hL hdk 65 0 (by omega) (by omega) _ _ ls ⟨_, _, _, _, _, _, _, _, _, _, _, _, _, _, _, _, _, _, _, _, _, _, Inv.start, hP, hD, hS⟩ (lv_sub hl [0, 1, 2, 3] rfl)
set_option maxHeartbeats 4000000 in
theorem lw_walk (l : Launch) (b : Addr) (xs : List Int32) : MetFree l x (headSpec (Jvm.Cond.code x code maxLocals ret :: tables_1) room_1) (lw_P b xs) (fun _ _ _ _ _ => True) lw_Q := by
  refine MetFree.of_bodyS (code := code) (maxLocals := maxLocals) (ret := ret) (by decide) ?_ ?_
  · intro args s m h hn
    obtain ⟨meth, c, h1, h2, h3, h4, h5, h6, -, -⟩ := Cond.code_spec hn (atoms_spec (ws := Jvm.Cond.code x code maxLocals ret :: tables_1) h _ List.mem_cons_self)
    exact ⟨meth, c, h1, h2, h3, h4, h5, h6⟩
  · intro p e s m args below meth c s₁ B hml0 hP _
    obtain ⟨rfl, hx, hbd, hgv⟩ := hP
    obtain ⟨scr, harrAt, hlist, hof, hsmall⟩ := hx
    obtain ⟨hcb, hkn, -, -⟩ := State.arrayAt?_spec harrAt
    have hown : s.vm.findClass R_law = some m.cls := findClass_of_methodNamed B.named
    have hts0 : ∀ c ∈ (Jvm.Cond.code x code maxLocals ret :: tables_1), c.before #[Value.ref b] s = true := atoms_spec (ws := Jvm.Cond.code x code maxLocals ret :: tables_1) B.pre
    have hts : ∀ w ∈ lw_tbl, w.before #[Value.ref b] s = true := k2_hts_sels lw_privs (fun w hw => hts0 w (List.mem_cons_of_mem _ hw)) lw_privs_ok
    have hml : c.maxLocals = 4 := B.maxLocals_eq (hts0 _ List.mem_cons_self)
    have X₀ : Stand p l e room_1 s m #[Value.ref b] below meth c s₁ [] 0 0 := Stand.of_body B
    have hh0 : s₁.heap = s.heap := by rw [B.state]; rfl
    have hsz : scr.slots.size = xs.length := by rw [← Array.length_toList, hlist, List.length_map]
    have hval : ∀ j : Nat, j < xs.length → scr.slots[j]? = some (.int (xs.getD j 0)) := fun j hj => by
      rw [← Array.getElem?_toList, hlist]
      simp [hj]
    have hbl : b < s.heap.size := (Array.getElem?_eq_some_iff.mp hcb).1
    have hX : va_X b xs.length (fun j => xs.getD j 0) s s.heap := ⟨scr, hcb, hof, hkn, hsz, hval⟩
    have K : W p l e room_1 s m #[Value.ref b] below meth c s₁.heap [] 0 0 (lw_Z below #[Value.ref b] s) (entryFrame m ([Value.ref b] : List Value).toArray 4) := by
      rw [hh0]
      exact whole_start l hbd ⟨B.exec, B.bytes, B.returns, hml, hown, hts, hX, hbl, B.notSynchronized, hgv⟩
    obtain ⟨t, a1, o, b1, b2, b3⟩ := K s₁ rfl X₀
    exact ⟨t, o, a1, b1, b2, b3⟩
theorem lw_pre_spec {args : Array Value} {s : State} (h : (Jvm.Cond.and given_1 narrow_1).before args s = true) (hr : rest_1_c.before args s = true) : ∃ (b : Addr) (xs : List Int32), lw_P b xs args s := by
  have hs := flat_of_before _ h
  have hq := flat_of_before _ hr
  have hc : (Cond.count 1).before args s = true := hs _ (by decide +kernel)
  have harr : (Cond.arrayOf (.arg 0) .int).before args s = true := hs _ (by decide +kernel)
  have hle : (Cond.le (.length (.arg 0)) (.int 320)).before args s = true := hs _ (by decide +kernel)
  have hlen : (Cond.isInt (.length (.arg 0))).before args s = true := hq _ (by decide +kernel)
  have hall : (Cond.all (.arg 0) (.isInt (.elem (.arg 0) (.index 0)))).before args s = true := hq _ (by decide +kernel)
  obtain ⟨b, xs, hb, hx⟩ := State.ints_of_pre rfl harr hlen hall
  have hsm : xs.length < 2 ^ 31 := hx.choose_spec.2.2.2
  have hev : (Term.length (.arg 0)).eval args s none [] s = some (.int xs.length.toInt32) := hx.length_eval hb
  have hv := Cond.le_ints hev (show (Term.int 320).eval args s none [] s = some (.int 320) from rfl)
  have hd : xs.length.toInt32 ≤ 320 := by
    simpa [Cond.before, Cond.holds, hv] using hle
  have hN : xs.length ≤ 320 := (Int32.ofNat_le_ofNat hsm (by decide)).mp (show Int32.ofNat xs.length ≤ Int32.ofNat 320 from hd)
  exact ⟨b, xs, Cond.one_arg hc (show args[0]? = some (.ref b) from hb), hx, hN, h⟩
theorem lw_comes (l : Launch) : Comes l x (Jvm.Cond.code x code maxLocals ret :: tables_1) room_1 (fun tb e args s => Calls_1 tb e args s ∧ rest_1 tb e args s ∧ Pre_1 tb e args s)
    (fun _ _ args s o t => lw_Q args s o t) := by
  intro p e ha hc hk s m args below hf hfit hheap happ hpre
  obtain ⟨b, xs, hP⟩ := lw_pre_spec hpre.2.2 hpre.2.1
  obtain ⟨k, o, h1, h2, h3, hQ⟩ := lw_walk l b xs p e ha hc hk s m args below hf ((Spec.applies_iff_loose hf).mp happ).1 hP trivial
  exact ⟨k, o, h1, h2, h3, hQ⟩
theorem lw_frame {s t : State} {o : Outcome} {args : Array Value} (h : Framed s o t [] 600000 7290000) :
    Framed s o t (fieldLocs frame_1_writes args s ++ arrayLocs frame_1_arrays args s ++ staticLocs frame_1_statics s) 600000 7290000 := h
theorem lw_limb (L : Cond) (hL : ∀ (args : Array Value) (s t : State), L.after args s (.returned (some (.int 1))) t = true) :
    ArmFor flags0 classFile x code maxLocals ret World_1 tables_1 room_1 Calls_1 rest_1 Pre_1
      (fun tb e a s o t => postC L tb e a s o t ∧ Framed s o t (fieldLocs frame_1_writes a s ++ arrayLocs frame_1_arrays a s ++ staticLocs frame_1_statics s) 600000 7290000) := by
  intro l _ _ _ p e ha hc hk s m args below hf hfit hheap happ hpre
  obtain ⟨k, o, h1, h2, h3, rfl, hF⟩ := lw_comes l p e ha hc hk s m args below hf hfit hheap happ hpre
  exact ⟨k, _, h1, h2, h3, hL args s _, lw_frame hF⟩
theorem i_vc : Claimed_1_1 ∧ Claimed_1_2 := ⟨lw_limb limb_1_1 (fun args s t => by simp [limb_1_1, Cond.after, Cond.holds, Cond.value]), lw_limb limb_1_2 (fun args s t => Cond.after_iff.mpr (by
  first | (rw [show limb_1_2 = Cond.eq .result (.int 1) from rfl, Cond.eq_ints (x := 1) (y := 1) rfl rfl]; simp; done) | (simp [limb_1_2, Cond.value, Term.eval]; done)))⟩
end
