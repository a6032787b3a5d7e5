section
-- ===== PART A: goes FIRST, ahead of the names: the tables' words, and 'selects' of the private methods out of them =====
/-- a private method of a class that the tables say can be made, by its rows of tables_1 -/
def lw_okq (q : MethodName × Nat) : Prop := (q.1.cls ≠ "java/lang/invoke/MethodHandle" ∧ q.1.cls ≠ "java/lang/invoke/VarHandle") ∧ Cond.instantiable q.1.cls q.2 ∈ tables_1 ∧ Cond.privateMethod q.1 ∈ tables_1 ∧ Cond.instanceMethod q.1 ∈ tables_1
set_option maxRecDepth 100000
theorem lw_p0 : lw_okq (⟨"StructuralTypes", "become", "(II)I"⟩, 11) := ⟨⟨by decide +kernel, by decide +kernel⟩, List.mem_of_getElem? (i := 4) rfl, List.mem_of_getElem? (i := 56) rfl, List.mem_of_getElem? (i := 57) rfl⟩
theorem lw_p1 : lw_okq (⟨"StructuralTypes", "forgetAll", "()V"⟩, 11) := ⟨⟨by decide +kernel, by decide +kernel⟩, List.mem_of_getElem? (i := 4) rfl, List.mem_of_getElem? (i := 60) rfl, List.mem_of_getElem? (i := 61) rfl⟩
theorem lw_p2 : lw_okq (⟨"StructuralTypes", "isSubtype", "(II)Z"⟩, 11) := ⟨⟨by decide +kernel, by decide +kernel⟩, List.mem_of_getElem? (i := 4) rfl, List.mem_of_getElem? (i := 80) rfl, List.mem_of_getElem? (i := 81) rfl⟩
theorem lw_p3 : lw_okq (⟨"StructuralTypes", "decide", "(II)Z"⟩, 11) := ⟨⟨by decide +kernel, by decide +kernel⟩, List.mem_of_getElem? (i := 4) rfl, List.mem_of_getElem? (i := 84) rfl, List.mem_of_getElem? (i := 85) rfl⟩
theorem lw_p4 : lw_okq (⟨"StructuralTypes", "ask", "(II)Z"⟩, 11) := ⟨⟨by decide +kernel, by decide +kernel⟩, List.mem_of_getElem? (i := 4) rfl, List.mem_of_getElem? (i := 88) rfl, List.mem_of_getElem? (i := 89) rfl⟩
theorem lw_p5 : lw_okq (⟨"StructuralTypes", "follow", "(II)Z"⟩, 11) := ⟨⟨by decide +kernel, by decide +kernel⟩, List.mem_of_getElem? (i := 4) rfl, List.mem_of_getElem? (i := 92) rfl, List.mem_of_getElem? (i := 93) rfl⟩
theorem lw_p6 : lw_okq (⟨"StructuralTypes", "followFields", "(II)Z"⟩, 11) := ⟨⟨by decide +kernel, by decide +kernel⟩, List.mem_of_getElem? (i := 4) rfl, List.mem_of_getElem? (i := 96) rfl, List.mem_of_getElem? (i := 97) rfl⟩
theorem lw_p7 : lw_okq (⟨"StructuralTypes", "refute", "(I)V"⟩, 11) := ⟨⟨by decide +kernel, by decide +kernel⟩, List.mem_of_getElem? (i := 4) rfl, List.mem_of_getElem? (i := 100) rfl, List.mem_of_getElem? (i := 101) rfl⟩
theorem lw_p8 : lw_okq (⟨"StructuralTypes", "both", "(II)Z"⟩, 11) := ⟨⟨by decide +kernel, by decide +kernel⟩, List.mem_of_getElem? (i := 4) rfl, List.mem_of_getElem? (i := 108) rfl, List.mem_of_getElem? (i := 109) rfl⟩
theorem lw_p9 : lw_okq (⟨"StructuralTypesModel", "bad", "(I)Z"⟩, 7) := ⟨⟨by decide +kernel, by decide +kernel⟩, List.mem_of_getElem? (i := 128) rfl, List.mem_of_getElem? (i := 160) rfl, List.mem_of_getElem? (i := 161) rfl⟩
theorem lw_p10 : lw_okq (⟨"StructuralTypesModel", "refusal", "(II)I"⟩, 7) := ⟨⟨by decide +kernel, by decide +kernel⟩, List.mem_of_getElem? (i := 128) rfl, List.mem_of_getElem? (i := 172) rfl, List.mem_of_getElem? (i := 173) rfl⟩
theorem lw_p11 : lw_okq (⟨"StructuralTypesModel", "setField", "(IIZ)I"⟩, 7) := ⟨⟨by decide +kernel, by decide +kernel⟩, List.mem_of_getElem? (i := 128) rfl, List.mem_of_getElem? (i := 176) rfl, List.mem_of_getElem? (i := 177) rfl⟩
theorem lw_p12 : lw_okq (⟨"StructuralTypesModel", "strike", "()V"⟩, 7) := ⟨⟨by decide +kernel, by decide +kernel⟩, List.mem_of_getElem? (i := 128) rfl, List.mem_of_getElem? (i := 188) rfl, List.mem_of_getElem? (i := 189) rfl⟩
theorem lw_p13 : lw_okq (⟨"StructuralTypesModel", "holds", "(II)Z"⟩, 7) := ⟨⟨by decide +kernel, by decide +kernel⟩, List.mem_of_getElem? (i := 128) rfl, List.mem_of_getElem? (i := 192) rfl, List.mem_of_getElem? (i := 193) rfl⟩
theorem lw_p14 : lw_okq (⟨"StructuralTypesModel", "fieldOk", "(II)Z"⟩, 7) := ⟨⟨by decide +kernel, by decide +kernel⟩, List.mem_of_getElem? (i := 128) rfl, List.mem_of_getElem? (i := 196) rfl, List.mem_of_getElem? (i := 197) rfl⟩
def lw_privs_1 : List (MethodName × Nat) := [(⟨"StructuralTypes", "become", "(II)I"⟩, 11), (⟨"StructuralTypes", "forgetAll", "()V"⟩, 11), (⟨"StructuralTypes", "isSubtype", "(II)Z"⟩, 11), (⟨"StructuralTypes", "decide", "(II)Z"⟩, 11), (⟨"StructuralTypes", "ask", "(II)Z"⟩, 11), (⟨"StructuralTypes", "follow", "(II)Z"⟩, 11), (⟨"StructuralTypes", "followFields", "(II)Z"⟩, 11), (⟨"StructuralTypes", "refute", "(I)V"⟩, 11), (⟨"StructuralTypes", "both", "(II)Z"⟩, 11), (⟨"StructuralTypesModel", "bad", "(I)Z"⟩, 7), (⟨"StructuralTypesModel", "refusal", "(II)I"⟩, 7), (⟨"StructuralTypesModel", "setField", "(IIZ)I"⟩, 7), (⟨"StructuralTypesModel", "strike", "()V"⟩, 7), (⟨"StructuralTypesModel", "holds", "(II)Z"⟩, 7), (⟨"StructuralTypesModel", "fieldOk", "(II)Z"⟩, 7)]
theorem lw_r1 : ∀ q ∈ lw_privs_1, lw_okq q := List.forall_mem_cons.mpr ⟨lw_p0, List.forall_mem_cons.mpr ⟨lw_p1, List.forall_mem_cons.mpr ⟨lw_p2, List.forall_mem_cons.mpr ⟨lw_p3, List.forall_mem_cons.mpr ⟨lw_p4, List.forall_mem_cons.mpr ⟨lw_p5, List.forall_mem_cons.mpr ⟨lw_p6, List.forall_mem_cons.mpr ⟨lw_p7, List.forall_mem_cons.mpr ⟨lw_p8, List.forall_mem_cons.mpr ⟨lw_p9, List.forall_mem_cons.mpr ⟨lw_p10, List.forall_mem_cons.mpr ⟨lw_p11, List.forall_mem_cons.mpr ⟨lw_p12, List.forall_mem_cons.mpr ⟨lw_p13, List.forall_mem_cons.mpr ⟨lw_p14, fun _ h => absurd h List.not_mem_nil⟩⟩⟩⟩⟩⟩⟩⟩⟩⟩⟩⟩⟩⟩⟩
def lw_privs : List (MethodName × Nat) := lw_privs_1
def lw_tbl : List Cond := k2_sels lw_privs ++ tables_1
theorem lw_privs_ok : ∀ q ∈ lw_privs, lw_okq q := lw_r1
-- ===== ONE list of words for every method: the tables' words that hold all through a run =====
def lw_all : List Cond := lw_tbl.filter goodWord
/-- a word of the tables by its place: claim/WORDS.tsv -/
theorem lw_w {w : Cond} (i : Nat) (h : lw_tbl[i]? = some w) (g : goodWord w = true) : w ∈ lw_all := List.mem_filter.mpr ⟨List.mem_of_getElem? h, g⟩
theorem lw_all_tbl {w : Cond} (h : w ∈ lw_all) : w ∈ lw_tbl := (List.mem_filter.mp h).1
theorem lw_self : GoodIn lw_all lw_all := fun w h => ⟨h, good_of_word (List.mem_filter.mp h).2⟩
/-- a class's field words, by their places -/
theorem lw_in (ws : List Cond) (ps : List Nat) (hp : ws = ps.filterMap (fun i => lw_tbl[i]?)) (hg : ws.all goodWord = true) : ∀ w ∈ ws, w ∈ lw_all := by
  intro w h
  have h1 := List.all_eq_true.mp hg w h
  rw [hp] at h
  obtain ⟨i, -, hi⟩ := List.mem_filterMap.mp h
  exact lw_w i hi h1
/-- the words of a contract for the method y with code b, L locals, answer r -/
abbrev ws_ (y : MethodName) (b : ByteArray) (L : Nat) (r : Option FieldType) : List Cond := Cond.code y b L r :: lw_all
theorem lw_meth {y : MethodName} {b : ByteArray} {L : Nat} {r : Option FieldType} (h : Cond.code y b L r ∈ lw_all) : GoodIn lw_all (ws_ y b L r) := by
  intro w hw
  rcases List.mem_cons.mp hw with e | e
  · rw [e]
    exact lw_self _ h
  · exact lw_self _ e
theorem lw_app {a c : List Cond} (ha : ∀ w ∈ a, w ∈ lw_all) (hc : GoodIn lw_all c) : GoodIn lw_all (a ++ c) := by
  intro w hw
  rcases List.mem_append.mp hw with e | e
  · exact lw_self w (ha w e)
  · exact hc w e
/-- what a call through an object asks: cwV n hts (lw_V ..) -/
theorem lw_V {own : String} {idx : Nat} {C : String} {y : MethodName} {b : ByteArray} {L : Nat} {r : Option FieldType} (h1 : Cond.methodLink own idx y ∈ lw_all) (h2 : Cond.instanceMethod y ∈ lw_all) (h3 : Cond.selects C y y ∈ lw_all) (h4 : Cond.initialized C ∈ lw_all) (h5 : Cond.code y b L r ∈ lw_all) : GoodIn lw_all (wsV own idx C y (ws_ y b L r)) := by
  refine lw_app ?_ (lw_meth h5)
  intro w hw
  simp only [List.mem_cons, List.not_mem_nil, or_false] at hw
  rcases hw with e | e | e | e
  · rw [e]; exact h1
  · rw [e]; exact h2
  · rw [e]; exact h3
  · rw [e]; exact h4
/-- what a static call asks: va_cwS n hts (lw_S ..) -/
theorem lw_S {own : String} {idx : Nat} {y : MethodName} {b : ByteArray} {L : Nat} {r : Option FieldType} (h1 : Cond.methodLink own idx y ∈ lw_all) (h2 : Cond.static y ∈ lw_all) (h3 : Cond.initialized y.cls ∈ lw_all) (h4 : Cond.code y b L r ∈ lw_all) : GoodIn lw_all (va_wsS own idx y (ws_ y b L r)) := by
  refine lw_app ?_ (lw_meth h4)
  intro w hw
  simp only [List.mem_cons, List.not_mem_nil, or_false] at hw
  rcases hw with e | e | e
  · rw [e]; exact h1
  · rw [e]; exact h2
  · rw [e]; exact h3
/-- the words of a contract for a method WITH HANDLERS (hh: its table) -/
abbrev wsW_ (y : MethodName) (b : ByteArray) (L : Nat) (r : Option FieldType) (hh : List (Nat × Nat × Nat × Nat)) : List Cond := Cond.codeWith y b L r hh :: lw_all
theorem lw_methW {y : MethodName} {b : ByteArray} {L : Nat} {r : Option FieldType} {hh : List (Nat × Nat × Nat × Nat)} (h : Cond.codeWith y b L r hh ∈ lw_all) : GoodIn lw_all (wsW_ y b L r hh) := by
  intro w hw
  rcases List.mem_cons.mp hw with e | e
  · rw [e]
    exact lw_self _ h
  · exact lw_self _ e
/-- any list of words by their places (lw_in), good -/
theorem lw_good {ws : List Cond} (h : ∀ w ∈ ws, w ∈ lw_all) : GoodIn lw_all ws := fun w hw => lw_self w (h w hw)
/-- what a call of a method with handlers asks: vx_cwVW n hts (lw_VW ..), vx_cwSW n hts (lw_SW ..) -/
theorem lw_VW {own : String} {idx : Nat} {C : String} {y : MethodName} {b : ByteArray} {L : Nat} {r : Option FieldType} {hh : List (Nat × Nat × Nat × Nat)} (h1 : Cond.methodLink own idx y ∈ lw_all) (h2 : Cond.instanceMethod y ∈ lw_all) (h3 : Cond.selects C y y ∈ lw_all) (h4 : Cond.initialized C ∈ lw_all) (h5 : Cond.codeWith y b L r hh ∈ lw_all) : GoodIn lw_all (wsV own idx C y (wsW_ y b L r hh)) := by
  refine lw_app ?_ (lw_methW h5)
  intro w hw
  simp only [List.mem_cons, List.not_mem_nil, or_false] at hw
  rcases hw with e | e | e | e
  · rw [e]; exact h1
  · rw [e]; exact h2
  · rw [e]; exact h3
  · rw [e]; exact h4
theorem lw_SW {own : String} {idx : Nat} {y : MethodName} {b : ByteArray} {L : Nat} {r : Option FieldType} {hh : List (Nat × Nat × Nat × Nat)} (h1 : Cond.methodLink own idx y ∈ lw_all) (h2 : Cond.static y ∈ lw_all) (h3 : Cond.initialized y.cls ∈ lw_all) (h4 : Cond.codeWith y b L r hh ∈ lw_all) : GoodIn lw_all (va_wsS own idx y (wsW_ y b L r hh)) := by
  refine lw_app ?_ (lw_methW h4)
  intro w hw
  simp only [List.mem_cons, List.not_mem_nil, or_false] at hw
  rcases hw with e | e | e
  · rw [e]; exact h1
  · rw [e]; exact h2
  · rw [e]; exact h3
/-- a word by its place in its run of the tables -/
theorem lw_at {r : List Cond} (hr : ∀ w ∈ r, w ∈ lw_tbl) {w : Cond} (i : Nat) (h : r[i]? = some w) : w ∈ lw_tbl := hr w (List.mem_of_getElem? h)
theorem lw_g {w : Cond} (h : w ∈ lw_tbl) (g : goodWord w = true) : w ∈ lw_all := List.mem_filter.mpr ⟨h, g⟩
theorem lw_ms : ∀ w ∈ k2_sels lw_privs, w ∈ lw_tbl := fun w h => show w ∈ k2_sels lw_privs ++ tables_1 from List.mem_append_left _ h
theorem lw_m0 : ∀ w ∈ tables_1, w ∈ lw_tbl := fun w h => show w ∈ k2_sels lw_privs ++ tables_1 from List.mem_append_right (k2_sels lw_privs) h
theorem qs0 : (Cond.selects "StructuralTypes" ⟨"StructuralTypes", "become", "(II)I"⟩ ⟨"StructuralTypes", "become", "(II)I"⟩) ∈ lw_all := lw_g (lw_at lw_ms 0 rfl) rfl
theorem qs1 : (Cond.selects "StructuralTypes" ⟨"StructuralTypes", "forgetAll", "()V"⟩ ⟨"StructuralTypes", "forgetAll", "()V"⟩) ∈ lw_all := lw_g (lw_at lw_ms 1 rfl) rfl
theorem qs2 : (Cond.selects "StructuralTypes" ⟨"StructuralTypes", "isSubtype", "(II)Z"⟩ ⟨"StructuralTypes", "isSubtype", "(II)Z"⟩) ∈ lw_all := lw_g (lw_at lw_ms 2 rfl) rfl
theorem qs3 : (Cond.selects "StructuralTypes" ⟨"StructuralTypes", "decide", "(II)Z"⟩ ⟨"StructuralTypes", "decide", "(II)Z"⟩) ∈ lw_all := lw_g (lw_at lw_ms 3 rfl) rfl
theorem qs4 : (Cond.selects "StructuralTypes" ⟨"StructuralTypes", "ask", "(II)Z"⟩ ⟨"StructuralTypes", "ask", "(II)Z"⟩) ∈ lw_all := lw_g (lw_at lw_ms 4 rfl) rfl
theorem qs5 : (Cond.selects "StructuralTypes" ⟨"StructuralTypes", "follow", "(II)Z"⟩ ⟨"StructuralTypes", "follow", "(II)Z"⟩) ∈ lw_all := lw_g (lw_at lw_ms 5 rfl) rfl
theorem qs6 : (Cond.selects "StructuralTypes" ⟨"StructuralTypes", "followFields", "(II)Z"⟩ ⟨"StructuralTypes", "followFields", "(II)Z"⟩) ∈ lw_all := lw_g (lw_at lw_ms 6 rfl) rfl
theorem qs7 : (Cond.selects "StructuralTypes" ⟨"StructuralTypes", "refute", "(I)V"⟩ ⟨"StructuralTypes", "refute", "(I)V"⟩) ∈ lw_all := lw_g (lw_at lw_ms 7 rfl) rfl
theorem qs8 : (Cond.selects "StructuralTypes" ⟨"StructuralTypes", "both", "(II)Z"⟩ ⟨"StructuralTypes", "both", "(II)Z"⟩) ∈ lw_all := lw_g (lw_at lw_ms 8 rfl) rfl
theorem qs9 : (Cond.selects "StructuralTypesModel" ⟨"StructuralTypesModel", "bad", "(I)Z"⟩ ⟨"StructuralTypesModel", "bad", "(I)Z"⟩) ∈ lw_all := lw_g (lw_at lw_ms 9 rfl) rfl
theorem qs10 : (Cond.selects "StructuralTypesModel" ⟨"StructuralTypesModel", "refusal", "(II)I"⟩ ⟨"StructuralTypesModel", "refusal", "(II)I"⟩) ∈ lw_all := lw_g (lw_at lw_ms 10 rfl) rfl
theorem qs11 : (Cond.selects "StructuralTypesModel" ⟨"StructuralTypesModel", "setField", "(IIZ)I"⟩ ⟨"StructuralTypesModel", "setField", "(IIZ)I"⟩) ∈ lw_all := lw_g (lw_at lw_ms 11 rfl) rfl
theorem qs12 : (Cond.selects "StructuralTypesModel" ⟨"StructuralTypesModel", "strike", "()V"⟩ ⟨"StructuralTypesModel", "strike", "()V"⟩) ∈ lw_all := lw_g (lw_at lw_ms 12 rfl) rfl
theorem qs13 : (Cond.selects "StructuralTypesModel" ⟨"StructuralTypesModel", "holds", "(II)Z"⟩ ⟨"StructuralTypesModel", "holds", "(II)Z"⟩) ∈ lw_all := lw_g (lw_at lw_ms 13 rfl) rfl
theorem qs14 : (Cond.selects "StructuralTypesModel" ⟨"StructuralTypesModel", "fieldOk", "(II)Z"⟩ ⟨"StructuralTypesModel", "fieldOk", "(II)Z"⟩) ∈ lw_all := lw_g (lw_at lw_ms 14 rfl) rfl
end
section
/-! StructuralTypes -/
set_option maxRecDepth 100000
def RX0 : String := "StructuralTypes"
def TX0 : u_T := fun k => match k with
  | 0 => ("StructuralTypes", "shapes", "[I", true)
  | 1 => ("StructuralTypes", "argument", "[I", true)
  | 2 => ("StructuralTypes", "result", "[I", true)
  | 3 => ("StructuralTypes", "fields", "[I", true)
  | 4 => ("StructuralTypes", "optional", "[Z", true)
  | 5 => ("StructuralTypes", "known", "[B", true)
  | 6 => ("StructuralTypes", "taken", "I", false)
  | 7 => ("StructuralTypes", "list", "[I", true)
  | 8 => ("StructuralTypes", "askedBy", "[I", true)
  | 9 => ("StructuralTypes", "under", "[Z", true)
  | _ => ("StructuralTypes", "asking", "I", false)
def tyX0 : Nat → FieldType := fun k => match k with
  | 0 => .array .int
  | 1 => .array .int
  | 2 => .array .int
  | 3 => .array .int
  | 4 => .array .boolean
  | 5 => .array .byte
  | 6 => .int
  | 7 => .array .int
  | 8 => .array .int
  | 9 => .array .boolean
  | _ => .int
abbrev wsX00 : List Cond := u_ws RX0 TX0 11
theorem nmX0 : ∀ a, a < 11 → ∀ b, b < 11 → a ≠ b → (TX0 a).2.1 ≠ (TX0 b).2.1 := by decide +kernel
theorem tyX0_ok : ∀ k, k < 11 → parseFieldDescriptor (TX0 k).2.2.1 = some (tyX0 k) := by decide +kernel
abbrev cX0_init : ByteArray := prog_1_method_1_code
def yX0_init : MethodName := ⟨RX0, "<init>", "()V"⟩
theorem dX0_init_0 : decode cX0_init 0 = .ok (.aload_n 0, 1) := by decide +kernel
theorem dX0_init_1 : decode cX0_init 1 = .ok (.invokespecial 1, 3) := by decide +kernel
theorem dX0_init_4 : decode cX0_init 4 = .ok (.aload_n 0, 1) := by decide +kernel
theorem dX0_init_5 : decode cX0_init 5 = .ok (.bipush 16, 2) := by decide +kernel
theorem dX0_init_7 : decode cX0_init 7 = .ok (.newarray .int, 2) := by decide +kernel
theorem dX0_init_9 : decode cX0_init 9 = .ok (.putfield 7, 3) := by decide +kernel
theorem dX0_init_12 : decode cX0_init 12 = .ok (.aload_n 0, 1) := by decide +kernel
theorem dX0_init_13 : decode cX0_init 13 = .ok (.bipush 16, 2) := by decide +kernel
theorem dX0_init_15 : decode cX0_init 15 = .ok (.newarray .int, 2) := by decide +kernel
theorem dX0_init_17 : decode cX0_init 17 = .ok (.putfield 13, 3) := by decide +kernel
theorem dX0_init_20 : decode cX0_init 20 = .ok (.aload_n 0, 1) := by decide +kernel
theorem dX0_init_21 : decode cX0_init 21 = .ok (.bipush 16, 2) := by decide +kernel
theorem dX0_init_23 : decode cX0_init 23 = .ok (.newarray .int, 2) := by decide +kernel
theorem dX0_init_25 : decode cX0_init 25 = .ok (.putfield 16, 3) := by decide +kernel
theorem dX0_init_28 : decode cX0_init 28 = .ok (.aload_n 0, 1) := by decide +kernel
theorem dX0_init_29 : decode cX0_init 29 = .ok (.bipush 64, 2) := by decide +kernel
theorem dX0_init_31 : decode cX0_init 31 = .ok (.newarray .int, 2) := by decide +kernel
theorem dX0_init_33 : decode cX0_init 33 = .ok (.putfield 19, 3) := by decide +kernel
theorem dX0_init_36 : decode cX0_init 36 = .ok (.aload_n 0, 1) := by decide +kernel
theorem dX0_init_37 : decode cX0_init 37 = .ok (.bipush 64, 2) := by decide +kernel
theorem dX0_init_39 : decode cX0_init 39 = .ok (.newarray .boolean, 2) := by decide +kernel
theorem dX0_init_41 : decode cX0_init 41 = .ok (.putfield 22, 3) := by decide +kernel
theorem dX0_init_44 : decode cX0_init 44 = .ok (.aload_n 0, 1) := by decide +kernel
theorem dX0_init_45 : decode cX0_init 45 = .ok (.sipush 256, 3) := by decide +kernel
theorem dX0_init_48 : decode cX0_init 48 = .ok (.newarray .byte, 2) := by decide +kernel
theorem dX0_init_50 : decode cX0_init 50 = .ok (.putfield 26, 3) := by decide +kernel
theorem dX0_init_53 : decode cX0_init 53 = .ok (.aload_n 0, 1) := by decide +kernel
theorem dX0_init_54 : decode cX0_init 54 = .ok (.sipush 256, 3) := by decide +kernel
theorem dX0_init_57 : decode cX0_init 57 = .ok (.newarray .int, 2) := by decide +kernel
theorem dX0_init_59 : decode cX0_init 59 = .ok (.putfield 30, 3) := by decide +kernel
theorem dX0_init_62 : decode cX0_init 62 = .ok (.aload_n 0, 1) := by decide +kernel
theorem dX0_init_63 : decode cX0_init 63 = .ok (.sipush 256, 3) := by decide +kernel
theorem dX0_init_66 : decode cX0_init 66 = .ok (.newarray .int, 2) := by decide +kernel
theorem dX0_init_68 : decode cX0_init 68 = .ok (.putfield 33, 3) := by decide +kernel
theorem dX0_init_71 : decode cX0_init 71 = .ok (.aload_n 0, 1) := by decide +kernel
theorem dX0_init_72 : decode cX0_init 72 = .ok (.sipush 256, 3) := by decide +kernel
theorem dX0_init_75 : decode cX0_init 75 = .ok (.newarray .boolean, 2) := by decide +kernel
theorem dX0_init_77 : decode cX0_init 77 = .ok (.putfield 36, 3) := by decide +kernel
theorem dX0_init_80 : decode cX0_init 80 = .ok (.iconst 0, 1) := by decide +kernel
theorem dX0_init_81 : decode cX0_init 81 = .ok (.istore_n 1, 1) := by decide +kernel
theorem dX0_init_82 : decode cX0_init 82 = .ok (.iload_n 1, 1) := by decide +kernel
theorem dX0_init_83 : decode cX0_init 83 = .ok (.bipush 64, 2) := by decide +kernel
theorem dX0_init_85 : decode cX0_init 85 = .ok (.if_icmp .ge 16, 3) := by decide +kernel
theorem dX0_init_88 : decode cX0_init 88 = .ok (.aload_n 0, 1) := by decide +kernel
theorem dX0_init_89 : decode cX0_init 89 = .ok (.getfield 19, 3) := by decide +kernel
theorem dX0_init_92 : decode cX0_init 92 = .ok (.iload_n 1, 1) := by decide +kernel
theorem dX0_init_93 : decode cX0_init 93 = .ok (.iconst (-1), 1) := by decide +kernel
theorem dX0_init_94 : decode cX0_init 94 = .ok (.iastore, 1) := by decide +kernel
theorem dX0_init_95 : decode cX0_init 95 = .ok (.iinc 1 1, 3) := by decide +kernel
theorem dX0_init_98 : decode cX0_init 98 = .ok (.goto (-16), 3) := by decide +kernel
theorem dX0_init_101 : decode cX0_init 101 = .ok (.return_, 1) := by decide +kernel
abbrev cX0_shape : ByteArray := prog_1_method_5_code
def yX0_shape : MethodName := ⟨RX0, "shape", "(II)I"⟩
theorem dX0_shape_0 : decode cX0_shape 0 = .ok (.iload_n 1, 1) := by decide +kernel
theorem dX0_shape_1 : decode cX0_shape 1 = .ok (.invokestatic 42, 3) := by decide +kernel
theorem dX0_shape_4 : decode cX0_shape 4 = .ok (.ifCond .eq 5, 3) := by decide +kernel
theorem dX0_shape_7 : decode cX0_shape 7 = .ok (.iconst (-1), 1) := by decide +kernel
theorem dX0_shape_8 : decode cX0_shape 8 = .ok (.ireturn, 1) := by decide +kernel
theorem dX0_shape_9 : decode cX0_shape 9 = .ok (.iload_n 2, 1) := by decide +kernel
theorem dX0_shape_10 : decode cX0_shape 10 = .ok (.ifCond .lt 13, 3) := by decide +kernel
theorem dX0_shape_13 : decode cX0_shape 13 = .ok (.iload_n 2, 1) := by decide +kernel
theorem dX0_shape_14 : decode cX0_shape 14 = .ok (.iconst 5, 1) := by decide +kernel
theorem dX0_shape_15 : decode cX0_shape 15 = .ok (.if_icmp .gt 8, 3) := by decide +kernel
theorem dX0_shape_18 : decode cX0_shape 18 = .ok (.iload_n 2, 1) := by decide +kernel
theorem dX0_shape_19 : decode cX0_shape 19 = .ok (.iconst 4, 1) := by decide +kernel
theorem dX0_shape_20 : decode cX0_shape 20 = .ok (.if_icmp .ne 6, 3) := by decide +kernel
theorem dX0_shape_23 : decode cX0_shape 23 = .ok (.bipush (-4), 2) := by decide +kernel
theorem dX0_shape_25 : decode cX0_shape 25 = .ok (.ireturn, 1) := by decide +kernel
theorem dX0_shape_26 : decode cX0_shape 26 = .ok (.aload_n 0, 1) := by decide +kernel
theorem dX0_shape_27 : decode cX0_shape 27 = .ok (.iload_n 1, 1) := by decide +kernel
theorem dX0_shape_28 : decode cX0_shape 28 = .ok (.iload_n 2, 1) := by decide +kernel
theorem dX0_shape_29 : decode cX0_shape 29 = .ok (.invokevirtual 46, 3) := by decide +kernel
theorem dX0_shape_32 : decode cX0_shape 32 = .ok (.ireturn, 1) := by decide +kernel
abbrev cX0_bad : ByteArray := prog_1_method_2_code
def yX0_bad : MethodName := ⟨RX0, "bad", "(I)Z"⟩
theorem dX0_bad_0 : decode cX0_bad 0 = .ok (.iload_n 0, 1) := by decide +kernel
theorem dX0_bad_1 : decode cX0_bad 1 = .ok (.ifCond .lt 9, 3) := by decide +kernel
theorem dX0_bad_4 : decode cX0_bad 4 = .ok (.iload_n 0, 1) := by decide +kernel
theorem dX0_bad_5 : decode cX0_bad 5 = .ok (.bipush 16, 2) := by decide +kernel
theorem dX0_bad_7 : decode cX0_bad 7 = .ok (.if_icmp .lt 7, 3) := by decide +kernel
theorem dX0_bad_10 : decode cX0_bad 10 = .ok (.iconst 1, 1) := by decide +kernel
theorem dX0_bad_11 : decode cX0_bad 11 = .ok (.goto 4, 3) := by decide +kernel
theorem dX0_bad_14 : decode cX0_bad 14 = .ok (.iconst 0, 1) := by decide +kernel
theorem dX0_bad_15 : decode cX0_bad 15 = .ok (.ireturn, 1) := by decide +kernel
abbrev cX0_become : ByteArray := prog_1_method_4_code
def yX0_become : MethodName := ⟨RX0, "become", "(II)I"⟩
theorem dX0_become_0 : decode cX0_become 0 = .ok (.aload_n 0, 1) := by decide +kernel
theorem dX0_become_1 : decode cX0_become 1 = .ok (.getfield 7, 3) := by decide +kernel
theorem dX0_become_4 : decode cX0_become 4 = .ok (.iload_n 1, 1) := by decide +kernel
theorem dX0_become_5 : decode cX0_become 5 = .ok (.iaload, 1) := by decide +kernel
theorem dX0_become_6 : decode cX0_become 6 = .ok (.istore_n 3, 1) := by decide +kernel
theorem dX0_become_7 : decode cX0_become 7 = .ok (.aload_n 0, 1) := by decide +kernel
theorem dX0_become_8 : decode cX0_become 8 = .ok (.getfield 7, 3) := by decide +kernel
theorem dX0_become_11 : decode cX0_become 11 = .ok (.iload_n 1, 1) := by decide +kernel
theorem dX0_become_12 : decode cX0_become 12 = .ok (.iload_n 2, 1) := by decide +kernel
theorem dX0_become_13 : decode cX0_become 13 = .ok (.iastore, 1) := by decide +kernel
theorem dX0_become_14 : decode cX0_become 14 = .ok (.iconst 0, 1) := by decide +kernel
theorem dX0_become_15 : decode cX0_become 15 = .ok (.istore 4, 2) := by decide +kernel
theorem dX0_become_17 : decode cX0_become 17 = .ok (.iload 4, 2) := by decide +kernel
theorem dX0_become_19 : decode cX0_become 19 = .ok (.iconst 4, 1) := by decide +kernel
theorem dX0_become_20 : decode cX0_become 20 = .ok (.if_icmp .ge 33, 3) := by decide +kernel
theorem dX0_become_23 : decode cX0_become 23 = .ok (.aload_n 0, 1) := by decide +kernel
theorem dX0_become_24 : decode cX0_become 24 = .ok (.getfield 19, 3) := by decide +kernel
theorem dX0_become_27 : decode cX0_become 27 = .ok (.iload_n 1, 1) := by decide +kernel
theorem dX0_become_28 : decode cX0_become 28 = .ok (.iconst 4, 1) := by decide +kernel
theorem dX0_become_29 : decode cX0_become 29 = .ok (.imul, 1) := by decide +kernel
theorem dX0_become_30 : decode cX0_become 30 = .ok (.iload 4, 2) := by decide +kernel
theorem dX0_become_32 : decode cX0_become 32 = .ok (.iadd, 1) := by decide +kernel
theorem dX0_become_33 : decode cX0_become 33 = .ok (.iconst (-1), 1) := by decide +kernel
theorem dX0_become_34 : decode cX0_become 34 = .ok (.iastore, 1) := by decide +kernel
theorem dX0_become_35 : decode cX0_become 35 = .ok (.aload_n 0, 1) := by decide +kernel
theorem dX0_become_36 : decode cX0_become 36 = .ok (.getfield 22, 3) := by decide +kernel
theorem dX0_become_39 : decode cX0_become 39 = .ok (.iload_n 1, 1) := by decide +kernel
theorem dX0_become_40 : decode cX0_become 40 = .ok (.iconst 4, 1) := by decide +kernel
theorem dX0_become_41 : decode cX0_become 41 = .ok (.imul, 1) := by decide +kernel
theorem dX0_become_42 : decode cX0_become 42 = .ok (.iload 4, 2) := by decide +kernel
theorem dX0_become_44 : decode cX0_become 44 = .ok (.iadd, 1) := by decide +kernel
theorem dX0_become_45 : decode cX0_become 45 = .ok (.iconst 0, 1) := by decide +kernel
theorem dX0_become_46 : decode cX0_become 46 = .ok (.bastore, 1) := by decide +kernel
theorem dX0_become_47 : decode cX0_become 47 = .ok (.iinc 4 1, 3) := by decide +kernel
theorem dX0_become_50 : decode cX0_become 50 = .ok (.goto (-33), 3) := by decide +kernel
theorem dX0_become_53 : decode cX0_become 53 = .ok (.aload_n 0, 1) := by decide +kernel
theorem dX0_become_54 : decode cX0_become 54 = .ok (.invokevirtual 39, 3) := by decide +kernel
theorem dX0_become_57 : decode cX0_become 57 = .ok (.iload_n 3, 1) := by decide +kernel
theorem dX0_become_58 : decode cX0_become 58 = .ok (.ireturn, 1) := by decide +kernel
abbrev cX0_forgetAll : ByteArray := prog_1_method_3_code
def yX0_forgetAll : MethodName := ⟨RX0, "forgetAll", "()V"⟩
theorem dX0_forgetAll_0 : decode cX0_forgetAll 0 = .ok (.iconst 0, 1) := by decide +kernel
theorem dX0_forgetAll_1 : decode cX0_forgetAll 1 = .ok (.istore_n 1, 1) := by decide +kernel
theorem dX0_forgetAll_2 : decode cX0_forgetAll 2 = .ok (.iload_n 1, 1) := by decide +kernel
theorem dX0_forgetAll_3 : decode cX0_forgetAll 3 = .ok (.sipush 256, 3) := by decide +kernel
theorem dX0_forgetAll_6 : decode cX0_forgetAll 6 = .ok (.if_icmp .ge 16, 3) := by decide +kernel
theorem dX0_forgetAll_9 : decode cX0_forgetAll 9 = .ok (.aload_n 0, 1) := by decide +kernel
theorem dX0_forgetAll_10 : decode cX0_forgetAll 10 = .ok (.getfield 26, 3) := by decide +kernel
theorem dX0_forgetAll_13 : decode cX0_forgetAll 13 = .ok (.iload_n 1, 1) := by decide +kernel
theorem dX0_forgetAll_14 : decode cX0_forgetAll 14 = .ok (.iconst 0, 1) := by decide +kernel
theorem dX0_forgetAll_15 : decode cX0_forgetAll 15 = .ok (.bastore, 1) := by decide +kernel
theorem dX0_forgetAll_16 : decode cX0_forgetAll 16 = .ok (.iinc 1 1, 3) := by decide +kernel
theorem dX0_forgetAll_19 : decode cX0_forgetAll 19 = .ok (.goto (-17), 3) := by decide +kernel
theorem dX0_forgetAll_22 : decode cX0_forgetAll 22 = .ok (.return_, 1) := by decide +kernel
abbrev cX0_fun : ByteArray := prog_1_method_6_code
def yX0_fun : MethodName := ⟨RX0, "fun", "(III)I"⟩
theorem dX0_fun_0 : decode cX0_fun 0 = .ok (.iload_n 1, 1) := by decide +kernel
theorem dX0_fun_1 : decode cX0_fun 1 = .ok (.invokestatic 42, 3) := by decide +kernel
theorem dX0_fun_4 : decode cX0_fun 4 = .ok (.ifCond .ne 17, 3) := by decide +kernel
theorem dX0_fun_7 : decode cX0_fun 7 = .ok (.iload_n 2, 1) := by decide +kernel
theorem dX0_fun_8 : decode cX0_fun 8 = .ok (.invokestatic 42, 3) := by decide +kernel
theorem dX0_fun_11 : decode cX0_fun 11 = .ok (.ifCond .ne 10, 3) := by decide +kernel
theorem dX0_fun_14 : decode cX0_fun 14 = .ok (.iload_n 3, 1) := by decide +kernel
theorem dX0_fun_15 : decode cX0_fun 15 = .ok (.invokestatic 42, 3) := by decide +kernel
theorem dX0_fun_18 : decode cX0_fun 18 = .ok (.ifCond .eq 5, 3) := by decide +kernel
theorem dX0_fun_21 : decode cX0_fun 21 = .ok (.iconst (-1), 1) := by decide +kernel
theorem dX0_fun_22 : decode cX0_fun 22 = .ok (.ireturn, 1) := by decide +kernel
theorem dX0_fun_23 : decode cX0_fun 23 = .ok (.aload_n 0, 1) := by decide +kernel
theorem dX0_fun_24 : decode cX0_fun 24 = .ok (.iload_n 1, 1) := by decide +kernel
theorem dX0_fun_25 : decode cX0_fun 25 = .ok (.iconst 4, 1) := by decide +kernel
theorem dX0_fun_26 : decode cX0_fun 26 = .ok (.invokevirtual 46, 3) := by decide +kernel
theorem dX0_fun_29 : decode cX0_fun 29 = .ok (.istore 4, 2) := by decide +kernel
theorem dX0_fun_31 : decode cX0_fun 31 = .ok (.aload_n 0, 1) := by decide +kernel
theorem dX0_fun_32 : decode cX0_fun 32 = .ok (.getfield 13, 3) := by decide +kernel
theorem dX0_fun_35 : decode cX0_fun 35 = .ok (.iload_n 1, 1) := by decide +kernel
theorem dX0_fun_36 : decode cX0_fun 36 = .ok (.iload_n 2, 1) := by decide +kernel
theorem dX0_fun_37 : decode cX0_fun 37 = .ok (.iastore, 1) := by decide +kernel
theorem dX0_fun_38 : decode cX0_fun 38 = .ok (.aload_n 0, 1) := by decide +kernel
theorem dX0_fun_39 : decode cX0_fun 39 = .ok (.getfield 16, 3) := by decide +kernel
theorem dX0_fun_42 : decode cX0_fun 42 = .ok (.iload_n 1, 1) := by decide +kernel
theorem dX0_fun_43 : decode cX0_fun 43 = .ok (.iload_n 3, 1) := by decide +kernel
theorem dX0_fun_44 : decode cX0_fun 44 = .ok (.iastore, 1) := by decide +kernel
theorem dX0_fun_45 : decode cX0_fun 45 = .ok (.iload 4, 2) := by decide +kernel
theorem dX0_fun_47 : decode cX0_fun 47 = .ok (.ireturn, 1) := by decide +kernel
abbrev cX0_field : ByteArray := prog_1_method_7_code
def yX0_field : MethodName := ⟨RX0, "field", "(IIII)I"⟩
theorem dX0_field_0 : decode cX0_field 0 = .ok (.iload_n 1, 1) := by decide +kernel
theorem dX0_field_1 : decode cX0_field 1 = .ok (.invokestatic 42, 3) := by decide +kernel
theorem dX0_field_4 : decode cX0_field 4 = .ok (.ifCond .ne 10, 3) := by decide +kernel
theorem dX0_field_7 : decode cX0_field 7 = .ok (.iload_n 3, 1) := by decide +kernel
theorem dX0_field_8 : decode cX0_field 8 = .ok (.invokestatic 42, 3) := by decide +kernel
theorem dX0_field_11 : decode cX0_field 11 = .ok (.ifCond .eq 5, 3) := by decide +kernel
theorem dX0_field_14 : decode cX0_field 14 = .ok (.iconst (-1), 1) := by decide +kernel
theorem dX0_field_15 : decode cX0_field 15 = .ok (.ireturn, 1) := by decide +kernel
theorem dX0_field_16 : decode cX0_field 16 = .ok (.iload_n 2, 1) := by decide +kernel
theorem dX0_field_17 : decode cX0_field 17 = .ok (.ifCond .lt 8, 3) := by decide +kernel
theorem dX0_field_20 : decode cX0_field 20 = .ok (.iload_n 2, 1) := by decide +kernel
theorem dX0_field_21 : decode cX0_field 21 = .ok (.iconst 4, 1) := by decide +kernel
theorem dX0_field_22 : decode cX0_field 22 = .ok (.if_icmp .lt 6, 3) := by decide +kernel
theorem dX0_field_25 : decode cX0_field 25 = .ok (.bipush (-2), 2) := by decide +kernel
theorem dX0_field_27 : decode cX0_field 27 = .ok (.ireturn, 1) := by decide +kernel
theorem dX0_field_28 : decode cX0_field 28 = .ok (.aload_n 0, 1) := by decide +kernel
theorem dX0_field_29 : decode cX0_field 29 = .ok (.getfield 7, 3) := by decide +kernel
theorem dX0_field_32 : decode cX0_field 32 = .ok (.iload_n 1, 1) := by decide +kernel
theorem dX0_field_33 : decode cX0_field 33 = .ok (.iaload, 1) := by decide +kernel
theorem dX0_field_34 : decode cX0_field 34 = .ok (.iconst 5, 1) := by decide +kernel
theorem dX0_field_35 : decode cX0_field 35 = .ok (.if_icmp .eq 6, 3) := by decide +kernel
theorem dX0_field_38 : decode cX0_field 38 = .ok (.bipush (-3), 2) := by decide +kernel
theorem dX0_field_40 : decode cX0_field 40 = .ok (.ireturn, 1) := by decide +kernel
theorem dX0_field_41 : decode cX0_field 41 = .ok (.iload_n 1, 1) := by decide +kernel
theorem dX0_field_42 : decode cX0_field 42 = .ok (.iconst 4, 1) := by decide +kernel
theorem dX0_field_43 : decode cX0_field 43 = .ok (.imul, 1) := by decide +kernel
theorem dX0_field_44 : decode cX0_field 44 = .ok (.iload_n 2, 1) := by decide +kernel
theorem dX0_field_45 : decode cX0_field 45 = .ok (.iadd, 1) := by decide +kernel
theorem dX0_field_46 : decode cX0_field 46 = .ok (.istore 5, 2) := by decide +kernel
theorem dX0_field_48 : decode cX0_field 48 = .ok (.aload_n 0, 1) := by decide +kernel
theorem dX0_field_49 : decode cX0_field 49 = .ok (.getfield 19, 3) := by decide +kernel
theorem dX0_field_52 : decode cX0_field 52 = .ok (.iload 5, 2) := by decide +kernel
theorem dX0_field_54 : decode cX0_field 54 = .ok (.iaload, 1) := by decide +kernel
theorem dX0_field_55 : decode cX0_field 55 = .ok (.ifCond .lt 7, 3) := by decide +kernel
theorem dX0_field_58 : decode cX0_field 58 = .ok (.iconst 1, 1) := by decide +kernel
theorem dX0_field_59 : decode cX0_field 59 = .ok (.goto 4, 3) := by decide +kernel
theorem dX0_field_62 : decode cX0_field 62 = .ok (.iconst 0, 1) := by decide +kernel
theorem dX0_field_63 : decode cX0_field 63 = .ok (.istore 6, 2) := by decide +kernel
theorem dX0_field_65 : decode cX0_field 65 = .ok (.aload_n 0, 1) := by decide +kernel
theorem dX0_field_66 : decode cX0_field 66 = .ok (.getfield 19, 3) := by decide +kernel
theorem dX0_field_69 : decode cX0_field 69 = .ok (.iload 5, 2) := by decide +kernel
theorem dX0_field_71 : decode cX0_field 71 = .ok (.iload_n 3, 1) := by decide +kernel
theorem dX0_field_72 : decode cX0_field 72 = .ok (.iastore, 1) := by decide +kernel
theorem dX0_field_73 : decode cX0_field 73 = .ok (.aload_n 0, 1) := by decide +kernel
theorem dX0_field_74 : decode cX0_field 74 = .ok (.getfield 22, 3) := by decide +kernel
theorem dX0_field_77 : decode cX0_field 77 = .ok (.iload 5, 2) := by decide +kernel
theorem dX0_field_79 : decode cX0_field 79 = .ok (.iload 4, 2) := by decide +kernel
theorem dX0_field_81 : decode cX0_field 81 = .ok (.ifCond .eq 7, 3) := by decide +kernel
theorem dX0_field_84 : decode cX0_field 84 = .ok (.iconst 1, 1) := by decide +kernel
theorem dX0_field_85 : decode cX0_field 85 = .ok (.goto 4, 3) := by decide +kernel
theorem dX0_field_88 : decode cX0_field 88 = .ok (.iconst 0, 1) := by decide +kernel
theorem dX0_field_89 : decode cX0_field 89 = .ok (.bastore, 1) := by decide +kernel
theorem dX0_field_90 : decode cX0_field 90 = .ok (.aload_n 0, 1) := by decide +kernel
theorem dX0_field_91 : decode cX0_field 91 = .ok (.invokevirtual 39, 3) := by decide +kernel
theorem dX0_field_94 : decode cX0_field 94 = .ok (.iload 6, 2) := by decide +kernel
theorem dX0_field_96 : decode cX0_field 96 = .ok (.ireturn, 1) := by decide +kernel
abbrev cX0_dropField : ByteArray := prog_1_method_8_code
def yX0_dropField : MethodName := ⟨RX0, "dropField", "(II)I"⟩
theorem dX0_dropField_0 : decode cX0_dropField 0 = .ok (.iload_n 1, 1) := by decide +kernel
theorem dX0_dropField_1 : decode cX0_dropField 1 = .ok (.invokestatic 42, 3) := by decide +kernel
theorem dX0_dropField_4 : decode cX0_dropField 4 = .ok (.ifCond .eq 5, 3) := by decide +kernel
theorem dX0_dropField_7 : decode cX0_dropField 7 = .ok (.iconst (-1), 1) := by decide +kernel
theorem dX0_dropField_8 : decode cX0_dropField 8 = .ok (.ireturn, 1) := by decide +kernel
theorem dX0_dropField_9 : decode cX0_dropField 9 = .ok (.iload_n 2, 1) := by decide +kernel
theorem dX0_dropField_10 : decode cX0_dropField 10 = .ok (.ifCond .lt 8, 3) := by decide +kernel
theorem dX0_dropField_13 : decode cX0_dropField 13 = .ok (.iload_n 2, 1) := by decide +kernel
theorem dX0_dropField_14 : decode cX0_dropField 14 = .ok (.iconst 4, 1) := by decide +kernel
theorem dX0_dropField_15 : decode cX0_dropField 15 = .ok (.if_icmp .lt 6, 3) := by decide +kernel
theorem dX0_dropField_18 : decode cX0_dropField 18 = .ok (.bipush (-2), 2) := by decide +kernel
theorem dX0_dropField_20 : decode cX0_dropField 20 = .ok (.ireturn, 1) := by decide +kernel
theorem dX0_dropField_21 : decode cX0_dropField 21 = .ok (.aload_n 0, 1) := by decide +kernel
theorem dX0_dropField_22 : decode cX0_dropField 22 = .ok (.getfield 7, 3) := by decide +kernel
theorem dX0_dropField_25 : decode cX0_dropField 25 = .ok (.iload_n 1, 1) := by decide +kernel
theorem dX0_dropField_26 : decode cX0_dropField 26 = .ok (.iaload, 1) := by decide +kernel
theorem dX0_dropField_27 : decode cX0_dropField 27 = .ok (.iconst 5, 1) := by decide +kernel
theorem dX0_dropField_28 : decode cX0_dropField 28 = .ok (.if_icmp .eq 6, 3) := by decide +kernel
theorem dX0_dropField_31 : decode cX0_dropField 31 = .ok (.bipush (-3), 2) := by decide +kernel
theorem dX0_dropField_33 : decode cX0_dropField 33 = .ok (.ireturn, 1) := by decide +kernel
theorem dX0_dropField_34 : decode cX0_dropField 34 = .ok (.iload_n 1, 1) := by decide +kernel
theorem dX0_dropField_35 : decode cX0_dropField 35 = .ok (.iconst 4, 1) := by decide +kernel
theorem dX0_dropField_36 : decode cX0_dropField 36 = .ok (.imul, 1) := by decide +kernel
theorem dX0_dropField_37 : decode cX0_dropField 37 = .ok (.iload_n 2, 1) := by decide +kernel
theorem dX0_dropField_38 : decode cX0_dropField 38 = .ok (.iadd, 1) := by decide +kernel
theorem dX0_dropField_39 : decode cX0_dropField 39 = .ok (.istore_n 3, 1) := by decide +kernel
theorem dX0_dropField_40 : decode cX0_dropField 40 = .ok (.aload_n 0, 1) := by decide +kernel
theorem dX0_dropField_41 : decode cX0_dropField 41 = .ok (.getfield 19, 3) := by decide +kernel
theorem dX0_dropField_44 : decode cX0_dropField 44 = .ok (.iload_n 3, 1) := by decide +kernel
theorem dX0_dropField_45 : decode cX0_dropField 45 = .ok (.iaload, 1) := by decide +kernel
theorem dX0_dropField_46 : decode cX0_dropField 46 = .ok (.ifCond .lt 7, 3) := by decide +kernel
theorem dX0_dropField_49 : decode cX0_dropField 49 = .ok (.iconst 1, 1) := by decide +kernel
theorem dX0_dropField_50 : decode cX0_dropField 50 = .ok (.goto 4, 3) := by decide +kernel
theorem dX0_dropField_53 : decode cX0_dropField 53 = .ok (.iconst 0, 1) := by decide +kernel
theorem dX0_dropField_54 : decode cX0_dropField 54 = .ok (.istore 4, 2) := by decide +kernel
theorem dX0_dropField_56 : decode cX0_dropField 56 = .ok (.aload_n 0, 1) := by decide +kernel
theorem dX0_dropField_57 : decode cX0_dropField 57 = .ok (.getfield 19, 3) := by decide +kernel
theorem dX0_dropField_60 : decode cX0_dropField 60 = .ok (.iload_n 3, 1) := by decide +kernel
theorem dX0_dropField_61 : decode cX0_dropField 61 = .ok (.iconst (-1), 1) := by decide +kernel
theorem dX0_dropField_62 : decode cX0_dropField 62 = .ok (.iastore, 1) := by decide +kernel
theorem dX0_dropField_63 : decode cX0_dropField 63 = .ok (.aload_n 0, 1) := by decide +kernel
theorem dX0_dropField_64 : decode cX0_dropField 64 = .ok (.getfield 22, 3) := by decide +kernel
theorem dX0_dropField_67 : decode cX0_dropField 67 = .ok (.iload_n 3, 1) := by decide +kernel
theorem dX0_dropField_68 : decode cX0_dropField 68 = .ok (.iconst 0, 1) := by decide +kernel
theorem dX0_dropField_69 : decode cX0_dropField 69 = .ok (.bastore, 1) := by decide +kernel
theorem dX0_dropField_70 : decode cX0_dropField 70 = .ok (.aload_n 0, 1) := by decide +kernel
theorem dX0_dropField_71 : decode cX0_dropField 71 = .ok (.invokevirtual 39, 3) := by decide +kernel
theorem dX0_dropField_74 : decode cX0_dropField 74 = .ok (.iload 4, 2) := by decide +kernel
theorem dX0_dropField_76 : decode cX0_dropField 76 = .ok (.ireturn, 1) := by decide +kernel
abbrev cX0_subtype : ByteArray := prog_1_method_16_code
def yX0_subtype : MethodName := ⟨RX0, "subtype", "(II)Z"⟩
theorem dX0_subtype_0 : decode cX0_subtype 0 = .ok (.iload_n 1, 1) := by decide +kernel
theorem dX0_subtype_1 : decode cX0_subtype 1 = .ok (.invokestatic 42, 3) := by decide +kernel
theorem dX0_subtype_4 : decode cX0_subtype 4 = .ok (.ifCond .ne 10, 3) := by decide +kernel
theorem dX0_subtype_7 : decode cX0_subtype 7 = .ok (.iload_n 2, 1) := by decide +kernel
theorem dX0_subtype_8 : decode cX0_subtype 8 = .ok (.invokestatic 42, 3) := by decide +kernel
theorem dX0_subtype_11 : decode cX0_subtype 11 = .ok (.ifCond .eq 5, 3) := by decide +kernel
theorem dX0_subtype_14 : decode cX0_subtype 14 = .ok (.iconst 0, 1) := by decide +kernel
theorem dX0_subtype_15 : decode cX0_subtype 15 = .ok (.ireturn, 1) := by decide +kernel
theorem dX0_subtype_16 : decode cX0_subtype 16 = .ok (.aload_n 0, 1) := by decide +kernel
theorem dX0_subtype_17 : decode cX0_subtype 17 = .ok (.iload_n 1, 1) := by decide +kernel
theorem dX0_subtype_18 : decode cX0_subtype 18 = .ok (.iload_n 2, 1) := by decide +kernel
theorem dX0_subtype_19 : decode cX0_subtype 19 = .ok (.invokevirtual 74, 3) := by decide +kernel
theorem dX0_subtype_22 : decode cX0_subtype 22 = .ok (.ireturn, 1) := by decide +kernel
abbrev cX0_isSubtype : ByteArray := prog_1_method_14_code
def yX0_isSubtype : MethodName := ⟨RX0, "isSubtype", "(II)Z"⟩
theorem dX0_isSubtype_0 : decode cX0_isSubtype 0 = .ok (.aload_n 0, 1) := by decide +kernel
theorem dX0_isSubtype_1 : decode cX0_isSubtype 1 = .ok (.getfield 26, 3) := by decide +kernel
theorem dX0_isSubtype_4 : decode cX0_isSubtype 4 = .ok (.iload_n 1, 1) := by decide +kernel
theorem dX0_isSubtype_5 : decode cX0_isSubtype 5 = .ok (.bipush 16, 2) := by decide +kernel
theorem dX0_isSubtype_7 : decode cX0_isSubtype 7 = .ok (.imul, 1) := by decide +kernel
theorem dX0_isSubtype_8 : decode cX0_isSubtype 8 = .ok (.iload_n 2, 1) := by decide +kernel
theorem dX0_isSubtype_9 : decode cX0_isSubtype 9 = .ok (.iadd, 1) := by decide +kernel
theorem dX0_isSubtype_10 : decode cX0_isSubtype 10 = .ok (.baload, 1) := by decide +kernel
theorem dX0_isSubtype_11 : decode cX0_isSubtype 11 = .ok (.istore_n 3, 1) := by decide +kernel
theorem dX0_isSubtype_12 : decode cX0_isSubtype 12 = .ok (.iload_n 3, 1) := by decide +kernel
theorem dX0_isSubtype_13 : decode cX0_isSubtype 13 = .ok (.ifCond .eq 14, 3) := by decide +kernel
theorem dX0_isSubtype_16 : decode cX0_isSubtype 16 = .ok (.iload_n 3, 1) := by decide +kernel
theorem dX0_isSubtype_17 : decode cX0_isSubtype 17 = .ok (.iconst 1, 1) := by decide +kernel
theorem dX0_isSubtype_18 : decode cX0_isSubtype 18 = .ok (.if_icmp .ne 7, 3) := by decide +kernel
theorem dX0_isSubtype_21 : decode cX0_isSubtype 21 = .ok (.iconst 1, 1) := by decide +kernel
theorem dX0_isSubtype_22 : decode cX0_isSubtype 22 = .ok (.goto 4, 3) := by decide +kernel
theorem dX0_isSubtype_25 : decode cX0_isSubtype 25 = .ok (.iconst 0, 1) := by decide +kernel
theorem dX0_isSubtype_26 : decode cX0_isSubtype 26 = .ok (.ireturn, 1) := by decide +kernel
theorem dX0_isSubtype_27 : decode cX0_isSubtype 27 = .ok (.aload_n 0, 1) := by decide +kernel
theorem dX0_isSubtype_28 : decode cX0_isSubtype 28 = .ok (.iload_n 1, 1) := by decide +kernel
theorem dX0_isSubtype_29 : decode cX0_isSubtype 29 = .ok (.iload_n 2, 1) := by decide +kernel
theorem dX0_isSubtype_30 : decode cX0_isSubtype 30 = .ok (.invokevirtual 71, 3) := by decide +kernel
theorem dX0_isSubtype_33 : decode cX0_isSubtype 33 = .ok (.ireturn, 1) := by decide +kernel
abbrev cX0_decide : ByteArray := prog_1_method_13_code
def yX0_decide : MethodName := ⟨RX0, "decide", "(II)Z"⟩
theorem dX0_decide_0 : decode cX0_decide 0 = .ok (.aload_n 0, 1) := by decide +kernel
theorem dX0_decide_1 : decode cX0_decide 1 = .ok (.iconst 0, 1) := by decide +kernel
theorem dX0_decide_2 : decode cX0_decide 2 = .ok (.putfield 54, 3) := by decide +kernel
theorem dX0_decide_5 : decode cX0_decide 5 = .ok (.aload_n 0, 1) := by decide +kernel
theorem dX0_decide_6 : decode cX0_decide 6 = .ok (.iconst (-1), 1) := by decide +kernel
theorem dX0_decide_7 : decode cX0_decide 7 = .ok (.putfield 50, 3) := by decide +kernel
theorem dX0_decide_10 : decode cX0_decide 10 = .ok (.iconst 0, 1) := by decide +kernel
theorem dX0_decide_11 : decode cX0_decide 11 = .ok (.istore_n 3, 1) := by decide +kernel
theorem dX0_decide_12 : decode cX0_decide 12 = .ok (.iload_n 3, 1) := by decide +kernel
theorem dX0_decide_13 : decode cX0_decide 13 = .ok (.sipush 256, 3) := by decide +kernel
theorem dX0_decide_16 : decode cX0_decide 16 = .ok (.if_icmp .ge 16, 3) := by decide +kernel
theorem dX0_decide_19 : decode cX0_decide 19 = .ok (.aload_n 0, 1) := by decide +kernel
theorem dX0_decide_20 : decode cX0_decide 20 = .ok (.getfield 36, 3) := by decide +kernel
theorem dX0_decide_23 : decode cX0_decide 23 = .ok (.iload_n 3, 1) := by decide +kernel
theorem dX0_decide_24 : decode cX0_decide 24 = .ok (.iconst 0, 1) := by decide +kernel
theorem dX0_decide_25 : decode cX0_decide 25 = .ok (.bastore, 1) := by decide +kernel
theorem dX0_decide_26 : decode cX0_decide 26 = .ok (.iinc 3 1, 3) := by decide +kernel
theorem dX0_decide_29 : decode cX0_decide 29 = .ok (.goto (-17), 3) := by decide +kernel
theorem dX0_decide_32 : decode cX0_decide 32 = .ok (.aload_n 0, 1) := by decide +kernel
theorem dX0_decide_33 : decode cX0_decide 33 = .ok (.iload_n 1, 1) := by decide +kernel
theorem dX0_decide_34 : decode cX0_decide 34 = .ok (.iload_n 2, 1) := by decide +kernel
theorem dX0_decide_35 : decode cX0_decide 35 = .ok (.invokevirtual 57, 3) := by decide +kernel
theorem dX0_decide_38 : decode cX0_decide 38 = .ok (.istore_n 3, 1) := by decide +kernel
theorem dX0_decide_39 : decode cX0_decide 39 = .ok (.iconst 0, 1) := by decide +kernel
theorem dX0_decide_40 : decode cX0_decide 40 = .ok (.istore 4, 2) := by decide +kernel
theorem dX0_decide_42 : decode cX0_decide 42 = .ok (.iload 4, 2) := by decide +kernel
theorem dX0_decide_44 : decode cX0_decide 44 = .ok (.aload_n 0, 1) := by decide +kernel
theorem dX0_decide_45 : decode cX0_decide 45 = .ok (.getfield 54, 3) := by decide +kernel
theorem dX0_decide_48 : decode cX0_decide 48 = .ok (.if_icmp .ge 64, 3) := by decide +kernel
theorem dX0_decide_51 : decode cX0_decide 51 = .ok (.iload_n 3, 1) := by decide +kernel
theorem dX0_decide_52 : decode cX0_decide 52 = .ok (.ifCond .eq 60, 3) := by decide +kernel
theorem dX0_decide_55 : decode cX0_decide 55 = .ok (.aload_n 0, 1) := by decide +kernel
theorem dX0_decide_56 : decode cX0_decide 56 = .ok (.aload_n 0, 1) := by decide +kernel
theorem dX0_decide_57 : decode cX0_decide 57 = .ok (.getfield 30, 3) := by decide +kernel
theorem dX0_decide_60 : decode cX0_decide 60 = .ok (.iload 4, 2) := by decide +kernel
theorem dX0_decide_62 : decode cX0_decide 62 = .ok (.iaload, 1) := by decide +kernel
theorem dX0_decide_63 : decode cX0_decide 63 = .ok (.putfield 50, 3) := by decide +kernel
theorem dX0_decide_66 : decode cX0_decide 66 = .ok (.aload_n 0, 1) := by decide +kernel
theorem dX0_decide_67 : decode cX0_decide 67 = .ok (.aload_n 0, 1) := by decide +kernel
theorem dX0_decide_68 : decode cX0_decide 68 = .ok (.getfield 30, 3) := by decide +kernel
theorem dX0_decide_71 : decode cX0_decide 71 = .ok (.iload 4, 2) := by decide +kernel
theorem dX0_decide_73 : decode cX0_decide 73 = .ok (.iaload, 1) := by decide +kernel
theorem dX0_decide_74 : decode cX0_decide 74 = .ok (.bipush 16, 2) := by decide +kernel
theorem dX0_decide_76 : decode cX0_decide 76 = .ok (.idiv, 1) := by decide +kernel
theorem dX0_decide_77 : decode cX0_decide 77 = .ok (.aload_n 0, 1) := by decide +kernel
theorem dX0_decide_78 : decode cX0_decide 78 = .ok (.getfield 30, 3) := by decide +kernel
theorem dX0_decide_81 : decode cX0_decide 81 = .ok (.iload 4, 2) := by decide +kernel
theorem dX0_decide_83 : decode cX0_decide 83 = .ok (.iaload, 1) := by decide +kernel
theorem dX0_decide_84 : decode cX0_decide 84 = .ok (.bipush 16, 2) := by decide +kernel
theorem dX0_decide_86 : decode cX0_decide 86 = .ok (.irem, 1) := by decide +kernel
theorem dX0_decide_87 : decode cX0_decide 87 = .ok (.invokevirtual 64, 3) := by decide +kernel
theorem dX0_decide_90 : decode cX0_decide 90 = .ok (.istore_n 3, 1) := by decide +kernel
theorem dX0_decide_91 : decode cX0_decide 91 = .ok (.iload_n 3, 1) := by decide +kernel
theorem dX0_decide_92 : decode cX0_decide 92 = .ok (.ifCond .ne 14, 3) := by decide +kernel
theorem dX0_decide_95 : decode cX0_decide 95 = .ok (.aload_n 0, 1) := by decide +kernel
theorem dX0_decide_96 : decode cX0_decide 96 = .ok (.aload_n 0, 1) := by decide +kernel
theorem dX0_decide_97 : decode cX0_decide 97 = .ok (.getfield 30, 3) := by decide +kernel
theorem dX0_decide_100 : decode cX0_decide 100 = .ok (.iload 4, 2) := by decide +kernel
theorem dX0_decide_102 : decode cX0_decide 102 = .ok (.iaload, 1) := by decide +kernel
theorem dX0_decide_103 : decode cX0_decide 103 = .ok (.invokevirtual 67, 3) := by decide +kernel
theorem dX0_decide_106 : decode cX0_decide 106 = .ok (.iinc 4 1, 3) := by decide +kernel
theorem dX0_decide_109 : decode cX0_decide 109 = .ok (.goto (-67), 3) := by decide +kernel
theorem dX0_decide_112 : decode cX0_decide 112 = .ok (.iconst 0, 1) := by decide +kernel
theorem dX0_decide_113 : decode cX0_decide 113 = .ok (.istore 4, 2) := by decide +kernel
theorem dX0_decide_115 : decode cX0_decide 115 = .ok (.iload 4, 2) := by decide +kernel
theorem dX0_decide_117 : decode cX0_decide 117 = .ok (.aload_n 0, 1) := by decide +kernel
theorem dX0_decide_118 : decode cX0_decide 118 = .ok (.getfield 54, 3) := by decide +kernel
theorem dX0_decide_121 : decode cX0_decide 121 = .ok (.if_icmp .ge 26, 3) := by decide +kernel
theorem dX0_decide_124 : decode cX0_decide 124 = .ok (.iload_n 3, 1) := by decide +kernel
theorem dX0_decide_125 : decode cX0_decide 125 = .ok (.ifCond .eq 22, 3) := by decide +kernel
theorem dX0_decide_128 : decode cX0_decide 128 = .ok (.aload_n 0, 1) := by decide +kernel
theorem dX0_decide_129 : decode cX0_decide 129 = .ok (.getfield 26, 3) := by decide +kernel
theorem dX0_decide_132 : decode cX0_decide 132 = .ok (.aload_n 0, 1) := by decide +kernel
theorem dX0_decide_133 : decode cX0_decide 133 = .ok (.getfield 30, 3) := by decide +kernel
theorem dX0_decide_136 : decode cX0_decide 136 = .ok (.iload 4, 2) := by decide +kernel
theorem dX0_decide_138 : decode cX0_decide 138 = .ok (.iaload, 1) := by decide +kernel
theorem dX0_decide_139 : decode cX0_decide 139 = .ok (.iconst 1, 1) := by decide +kernel
theorem dX0_decide_140 : decode cX0_decide 140 = .ok (.bastore, 1) := by decide +kernel
theorem dX0_decide_141 : decode cX0_decide 141 = .ok (.iinc 4 1, 3) := by decide +kernel
theorem dX0_decide_144 : decode cX0_decide 144 = .ok (.goto (-29), 3) := by decide +kernel
theorem dX0_decide_147 : decode cX0_decide 147 = .ok (.iload_n 3, 1) := by decide +kernel
theorem dX0_decide_148 : decode cX0_decide 148 = .ok (.ireturn, 1) := by decide +kernel
end
section
set_option maxRecDepth 100000
abbrev cX0_ask : ByteArray := prog_1_method_9_code
def yX0_ask : MethodName := ⟨RX0, "ask", "(II)Z"⟩
theorem dX0_ask_0 : decode cX0_ask 0 = .ok (.iload_n 1, 1) := by decide +kernel
theorem dX0_ask_1 : decode cX0_ask 1 = .ok (.bipush 16, 2) := by decide +kernel
theorem dX0_ask_3 : decode cX0_ask 3 = .ok (.imul, 1) := by decide +kernel
theorem dX0_ask_4 : decode cX0_ask 4 = .ok (.iload_n 2, 1) := by decide +kernel
theorem dX0_ask_5 : decode cX0_ask 5 = .ok (.iadd, 1) := by decide +kernel
theorem dX0_ask_6 : decode cX0_ask 6 = .ok (.istore_n 3, 1) := by decide +kernel
theorem dX0_ask_7 : decode cX0_ask 7 = .ok (.aload_n 0, 1) := by decide +kernel
theorem dX0_ask_8 : decode cX0_ask 8 = .ok (.getfield 26, 3) := by decide +kernel
theorem dX0_ask_11 : decode cX0_ask 11 = .ok (.iload_n 3, 1) := by decide +kernel
theorem dX0_ask_12 : decode cX0_ask 12 = .ok (.baload, 1) := by decide +kernel
theorem dX0_ask_13 : decode cX0_ask 13 = .ok (.iconst 2, 1) := by decide +kernel
theorem dX0_ask_14 : decode cX0_ask 14 = .ok (.if_icmp .ne 5, 3) := by decide +kernel
theorem dX0_ask_17 : decode cX0_ask 17 = .ok (.iconst 0, 1) := by decide +kernel
theorem dX0_ask_18 : decode cX0_ask 18 = .ok (.ireturn, 1) := by decide +kernel
theorem dX0_ask_19 : decode cX0_ask 19 = .ok (.aload_n 0, 1) := by decide +kernel
theorem dX0_ask_20 : decode cX0_ask 20 = .ok (.getfield 26, 3) := by decide +kernel
theorem dX0_ask_23 : decode cX0_ask 23 = .ok (.iload_n 3, 1) := by decide +kernel
theorem dX0_ask_24 : decode cX0_ask 24 = .ok (.baload, 1) := by decide +kernel
theorem dX0_ask_25 : decode cX0_ask 25 = .ok (.iconst 1, 1) := by decide +kernel
theorem dX0_ask_26 : decode cX0_ask 26 = .ok (.if_icmp .eq 12, 3) := by decide +kernel
theorem dX0_ask_29 : decode cX0_ask 29 = .ok (.aload_n 0, 1) := by decide +kernel
theorem dX0_ask_30 : decode cX0_ask 30 = .ok (.getfield 36, 3) := by decide +kernel
theorem dX0_ask_33 : decode cX0_ask 33 = .ok (.iload_n 3, 1) := by decide +kernel
theorem dX0_ask_34 : decode cX0_ask 34 = .ok (.baload, 1) := by decide +kernel
theorem dX0_ask_35 : decode cX0_ask 35 = .ok (.ifCond .eq 5, 3) := by decide +kernel
theorem dX0_ask_38 : decode cX0_ask 38 = .ok (.iconst 1, 1) := by decide +kernel
theorem dX0_ask_39 : decode cX0_ask 39 = .ok (.ireturn, 1) := by decide +kernel
theorem dX0_ask_40 : decode cX0_ask 40 = .ok (.aload_n 0, 1) := by decide +kernel
theorem dX0_ask_41 : decode cX0_ask 41 = .ok (.getfield 36, 3) := by decide +kernel
theorem dX0_ask_44 : decode cX0_ask 44 = .ok (.iload_n 3, 1) := by decide +kernel
theorem dX0_ask_45 : decode cX0_ask 45 = .ok (.iconst 1, 1) := by decide +kernel
theorem dX0_ask_46 : decode cX0_ask 46 = .ok (.bastore, 1) := by decide +kernel
theorem dX0_ask_47 : decode cX0_ask 47 = .ok (.aload_n 0, 1) := by decide +kernel
theorem dX0_ask_48 : decode cX0_ask 48 = .ok (.getfield 33, 3) := by decide +kernel
theorem dX0_ask_51 : decode cX0_ask 51 = .ok (.iload_n 3, 1) := by decide +kernel
theorem dX0_ask_52 : decode cX0_ask 52 = .ok (.aload_n 0, 1) := by decide +kernel
theorem dX0_ask_53 : decode cX0_ask 53 = .ok (.getfield 50, 3) := by decide +kernel
theorem dX0_ask_56 : decode cX0_ask 56 = .ok (.iastore, 1) := by decide +kernel
theorem dX0_ask_57 : decode cX0_ask 57 = .ok (.aload_n 0, 1) := by decide +kernel
theorem dX0_ask_58 : decode cX0_ask 58 = .ok (.getfield 30, 3) := by decide +kernel
theorem dX0_ask_61 : decode cX0_ask 61 = .ok (.aload_n 0, 1) := by decide +kernel
theorem dX0_ask_62 : decode cX0_ask 62 = .ok (.getfield 54, 3) := by decide +kernel
theorem dX0_ask_65 : decode cX0_ask 65 = .ok (.iload_n 3, 1) := by decide +kernel
theorem dX0_ask_66 : decode cX0_ask 66 = .ok (.iastore, 1) := by decide +kernel
theorem dX0_ask_67 : decode cX0_ask 67 = .ok (.aload_n 0, 1) := by decide +kernel
theorem dX0_ask_68 : decode cX0_ask 68 = .ok (.dup, 1) := by decide +kernel
theorem dX0_ask_69 : decode cX0_ask 69 = .ok (.getfield 54, 3) := by decide +kernel
theorem dX0_ask_72 : decode cX0_ask 72 = .ok (.iconst 1, 1) := by decide +kernel
theorem dX0_ask_73 : decode cX0_ask 73 = .ok (.iadd, 1) := by decide +kernel
theorem dX0_ask_74 : decode cX0_ask 74 = .ok (.putfield 54, 3) := by decide +kernel
theorem dX0_ask_77 : decode cX0_ask 77 = .ok (.iconst 1, 1) := by decide +kernel
theorem dX0_ask_78 : decode cX0_ask 78 = .ok (.ireturn, 1) := by decide +kernel
abbrev cX0_follow : ByteArray := prog_1_method_10_code
def yX0_follow : MethodName := ⟨RX0, "follow", "(II)Z"⟩
theorem dX0_follow_0 : decode cX0_follow 0 = .ok (.aload_n 0, 1) := by decide +kernel
theorem dX0_follow_1 : decode cX0_follow 1 = .ok (.getfield 7, 3) := by decide +kernel
theorem dX0_follow_4 : decode cX0_follow 4 = .ok (.iload_n 1, 1) := by decide +kernel
theorem dX0_follow_5 : decode cX0_follow 5 = .ok (.iaload, 1) := by decide +kernel
theorem dX0_follow_6 : decode cX0_follow 6 = .ok (.istore_n 3, 1) := by decide +kernel
theorem dX0_follow_7 : decode cX0_follow 7 = .ok (.aload_n 0, 1) := by decide +kernel
theorem dX0_follow_8 : decode cX0_follow 8 = .ok (.getfield 7, 3) := by decide +kernel
theorem dX0_follow_11 : decode cX0_follow 11 = .ok (.iload_n 2, 1) := by decide +kernel
theorem dX0_follow_12 : decode cX0_follow 12 = .ok (.iaload, 1) := by decide +kernel
theorem dX0_follow_13 : decode cX0_follow 13 = .ok (.istore 4, 2) := by decide +kernel
theorem dX0_follow_15 : decode cX0_follow 15 = .ok (.iload 4, 2) := by decide +kernel
theorem dX0_follow_17 : decode cX0_follow 17 = .ok (.iconst 2, 1) := by decide +kernel
theorem dX0_follow_18 : decode cX0_follow 18 = .ok (.if_icmp .eq 8, 3) := by decide +kernel
theorem dX0_follow_21 : decode cX0_follow 21 = .ok (.iload_n 3, 1) := by decide +kernel
theorem dX0_follow_22 : decode cX0_follow 22 = .ok (.iconst 3, 1) := by decide +kernel
theorem dX0_follow_23 : decode cX0_follow 23 = .ok (.if_icmp .ne 5, 3) := by decide +kernel
theorem dX0_follow_26 : decode cX0_follow 26 = .ok (.iconst 1, 1) := by decide +kernel
theorem dX0_follow_27 : decode cX0_follow 27 = .ok (.ireturn, 1) := by decide +kernel
theorem dX0_follow_28 : decode cX0_follow 28 = .ok (.iload_n 3, 1) := by decide +kernel
theorem dX0_follow_29 : decode cX0_follow 29 = .ok (.iload 4, 2) := by decide +kernel
theorem dX0_follow_31 : decode cX0_follow 31 = .ok (.if_icmp .eq 5, 3) := by decide +kernel
theorem dX0_follow_34 : decode cX0_follow 34 = .ok (.iconst 0, 1) := by decide +kernel
theorem dX0_follow_35 : decode cX0_follow 35 = .ok (.ireturn, 1) := by decide +kernel
theorem dX0_follow_36 : decode cX0_follow 36 = .ok (.iload_n 3, 1) := by decide +kernel
theorem dX0_follow_37 : decode cX0_follow 37 = .ok (.iconst 4, 1) := by decide +kernel
theorem dX0_follow_38 : decode cX0_follow 38 = .ok (.if_icmp .ne 51, 3) := by decide +kernel
theorem dX0_follow_41 : decode cX0_follow 41 = .ok (.aload_n 0, 1) := by decide +kernel
theorem dX0_follow_42 : decode cX0_follow 42 = .ok (.aload_n 0, 1) := by decide +kernel
theorem dX0_follow_43 : decode cX0_follow 43 = .ok (.getfield 13, 3) := by decide +kernel
theorem dX0_follow_46 : decode cX0_follow 46 = .ok (.iload_n 2, 1) := by decide +kernel
theorem dX0_follow_47 : decode cX0_follow 47 = .ok (.iaload, 1) := by decide +kernel
theorem dX0_follow_48 : decode cX0_follow 48 = .ok (.aload_n 0, 1) := by decide +kernel
theorem dX0_follow_49 : decode cX0_follow 49 = .ok (.getfield 13, 3) := by decide +kernel
theorem dX0_follow_52 : decode cX0_follow 52 = .ok (.iload_n 1, 1) := by decide +kernel
theorem dX0_follow_53 : decode cX0_follow 53 = .ok (.iaload, 1) := by decide +kernel
theorem dX0_follow_54 : decode cX0_follow 54 = .ok (.invokevirtual 57, 3) := by decide +kernel
theorem dX0_follow_57 : decode cX0_follow 57 = .ok (.istore 5, 2) := by decide +kernel
theorem dX0_follow_59 : decode cX0_follow 59 = .ok (.iload 5, 2) := by decide +kernel
theorem dX0_follow_61 : decode cX0_follow 61 = .ok (.ifCond .eq 26, 3) := by decide +kernel
theorem dX0_follow_64 : decode cX0_follow 64 = .ok (.aload_n 0, 1) := by decide +kernel
theorem dX0_follow_65 : decode cX0_follow 65 = .ok (.aload_n 0, 1) := by decide +kernel
theorem dX0_follow_66 : decode cX0_follow 66 = .ok (.getfield 16, 3) := by decide +kernel
theorem dX0_follow_69 : decode cX0_follow 69 = .ok (.iload_n 1, 1) := by decide +kernel
theorem dX0_follow_70 : decode cX0_follow 70 = .ok (.iaload, 1) := by decide +kernel
theorem dX0_follow_71 : decode cX0_follow 71 = .ok (.aload_n 0, 1) := by decide +kernel
theorem dX0_follow_72 : decode cX0_follow 72 = .ok (.getfield 16, 3) := by decide +kernel
theorem dX0_follow_75 : decode cX0_follow 75 = .ok (.iload_n 2, 1) := by decide +kernel
theorem dX0_follow_76 : decode cX0_follow 76 = .ok (.iaload, 1) := by decide +kernel
theorem dX0_follow_77 : decode cX0_follow 77 = .ok (.invokevirtual 57, 3) := by decide +kernel
theorem dX0_follow_80 : decode cX0_follow 80 = .ok (.ifCond .eq 7, 3) := by decide +kernel
theorem dX0_follow_83 : decode cX0_follow 83 = .ok (.iconst 1, 1) := by decide +kernel
theorem dX0_follow_84 : decode cX0_follow 84 = .ok (.goto 4, 3) := by decide +kernel
theorem dX0_follow_87 : decode cX0_follow 87 = .ok (.iconst 0, 1) := by decide +kernel
theorem dX0_follow_88 : decode cX0_follow 88 = .ok (.ireturn, 1) := by decide +kernel
theorem dX0_follow_89 : decode cX0_follow 89 = .ok (.iload_n 3, 1) := by decide +kernel
theorem dX0_follow_90 : decode cX0_follow 90 = .ok (.iconst 5, 1) := by decide +kernel
theorem dX0_follow_91 : decode cX0_follow 91 = .ok (.if_icmp .ne 12, 3) := by decide +kernel
theorem dX0_follow_94 : decode cX0_follow 94 = .ok (.aload_n 0, 1) := by decide +kernel
theorem dX0_follow_95 : decode cX0_follow 95 = .ok (.iload_n 1, 1) := by decide +kernel
theorem dX0_follow_96 : decode cX0_follow 96 = .ok (.iload_n 2, 1) := by decide +kernel
theorem dX0_follow_97 : decode cX0_follow 97 = .ok (.invokevirtual 61, 3) := by decide +kernel
theorem dX0_follow_100 : decode cX0_follow 100 = .ok (.ifCond .eq 7, 3) := by decide +kernel
theorem dX0_follow_103 : decode cX0_follow 103 = .ok (.iconst 1, 1) := by decide +kernel
theorem dX0_follow_104 : decode cX0_follow 104 = .ok (.goto 4, 3) := by decide +kernel
theorem dX0_follow_107 : decode cX0_follow 107 = .ok (.iconst 0, 1) := by decide +kernel
theorem dX0_follow_108 : decode cX0_follow 108 = .ok (.ireturn, 1) := by decide +kernel
abbrev cX0_followFields : ByteArray := prog_1_method_11_code
def yX0_followFields : MethodName := ⟨RX0, "followFields", "(II)Z"⟩
theorem dX0_followFields_0 : decode cX0_followFields 0 = .ok (.iconst 0, 1) := by decide +kernel
theorem dX0_followFields_1 : decode cX0_followFields 1 = .ok (.istore_n 3, 1) := by decide +kernel
theorem dX0_followFields_2 : decode cX0_followFields 2 = .ok (.iload_n 3, 1) := by decide +kernel
theorem dX0_followFields_3 : decode cX0_followFields 3 = .ok (.iconst 4, 1) := by decide +kernel
theorem dX0_followFields_4 : decode cX0_followFields 4 = .ok (.if_icmp .ge 92, 3) := by decide +kernel
theorem dX0_followFields_7 : decode cX0_followFields 7 = .ok (.iload_n 1, 1) := by decide +kernel
theorem dX0_followFields_8 : decode cX0_followFields 8 = .ok (.iconst 4, 1) := by decide +kernel
theorem dX0_followFields_9 : decode cX0_followFields 9 = .ok (.imul, 1) := by decide +kernel
theorem dX0_followFields_10 : decode cX0_followFields 10 = .ok (.iload_n 3, 1) := by decide +kernel
theorem dX0_followFields_11 : decode cX0_followFields 11 = .ok (.iadd, 1) := by decide +kernel
theorem dX0_followFields_12 : decode cX0_followFields 12 = .ok (.istore 4, 2) := by decide +kernel
theorem dX0_followFields_14 : decode cX0_followFields 14 = .ok (.iload_n 2, 1) := by decide +kernel
theorem dX0_followFields_15 : decode cX0_followFields 15 = .ok (.iconst 4, 1) := by decide +kernel
theorem dX0_followFields_16 : decode cX0_followFields 16 = .ok (.imul, 1) := by decide +kernel
theorem dX0_followFields_17 : decode cX0_followFields 17 = .ok (.iload_n 3, 1) := by decide +kernel
theorem dX0_followFields_18 : decode cX0_followFields 18 = .ok (.iadd, 1) := by decide +kernel
theorem dX0_followFields_19 : decode cX0_followFields 19 = .ok (.istore 5, 2) := by decide +kernel
theorem dX0_followFields_21 : decode cX0_followFields 21 = .ok (.aload_n 0, 1) := by decide +kernel
theorem dX0_followFields_22 : decode cX0_followFields 22 = .ok (.getfield 19, 3) := by decide +kernel
theorem dX0_followFields_25 : decode cX0_followFields 25 = .ok (.iload 5, 2) := by decide +kernel
theorem dX0_followFields_27 : decode cX0_followFields 27 = .ok (.iaload, 1) := by decide +kernel
theorem dX0_followFields_28 : decode cX0_followFields 28 = .ok (.ifCond .lt 62, 3) := by decide +kernel
theorem dX0_followFields_31 : decode cX0_followFields 31 = .ok (.aload_n 0, 1) := by decide +kernel
theorem dX0_followFields_32 : decode cX0_followFields 32 = .ok (.getfield 19, 3) := by decide +kernel
theorem dX0_followFields_35 : decode cX0_followFields 35 = .ok (.iload 4, 2) := by decide +kernel
theorem dX0_followFields_37 : decode cX0_followFields 37 = .ok (.iaload, 1) := by decide +kernel
theorem dX0_followFields_38 : decode cX0_followFields 38 = .ok (.ifCond .lt 23, 3) := by decide +kernel
theorem dX0_followFields_41 : decode cX0_followFields 41 = .ok (.aload_n 0, 1) := by decide +kernel
theorem dX0_followFields_42 : decode cX0_followFields 42 = .ok (.getfield 22, 3) := by decide +kernel
theorem dX0_followFields_45 : decode cX0_followFields 45 = .ok (.iload 4, 2) := by decide +kernel
theorem dX0_followFields_47 : decode cX0_followFields 47 = .ok (.baload, 1) := by decide +kernel
theorem dX0_followFields_48 : decode cX0_followFields 48 = .ok (.ifCond .eq 15, 3) := by decide +kernel
theorem dX0_followFields_51 : decode cX0_followFields 51 = .ok (.aload_n 0, 1) := by decide +kernel
theorem dX0_followFields_52 : decode cX0_followFields 52 = .ok (.getfield 22, 3) := by decide +kernel
theorem dX0_followFields_55 : decode cX0_followFields 55 = .ok (.iload 5, 2) := by decide +kernel
theorem dX0_followFields_57 : decode cX0_followFields 57 = .ok (.baload, 1) := by decide +kernel
theorem dX0_followFields_58 : decode cX0_followFields 58 = .ok (.ifCond .ne 5, 3) := by decide +kernel
theorem dX0_followFields_61 : decode cX0_followFields 61 = .ok (.iconst 0, 1) := by decide +kernel
theorem dX0_followFields_62 : decode cX0_followFields 62 = .ok (.ireturn, 1) := by decide +kernel
theorem dX0_followFields_63 : decode cX0_followFields 63 = .ok (.aload_n 0, 1) := by decide +kernel
theorem dX0_followFields_64 : decode cX0_followFields 64 = .ok (.aload_n 0, 1) := by decide +kernel
theorem dX0_followFields_65 : decode cX0_followFields 65 = .ok (.getfield 19, 3) := by decide +kernel
theorem dX0_followFields_68 : decode cX0_followFields 68 = .ok (.iload 4, 2) := by decide +kernel
theorem dX0_followFields_70 : decode cX0_followFields 70 = .ok (.iaload, 1) := by decide +kernel
theorem dX0_followFields_71 : decode cX0_followFields 71 = .ok (.aload_n 0, 1) := by decide +kernel
theorem dX0_followFields_72 : decode cX0_followFields 72 = .ok (.getfield 19, 3) := by decide +kernel
theorem dX0_followFields_75 : decode cX0_followFields 75 = .ok (.iload 5, 2) := by decide +kernel
theorem dX0_followFields_77 : decode cX0_followFields 77 = .ok (.iaload, 1) := by decide +kernel
theorem dX0_followFields_78 : decode cX0_followFields 78 = .ok (.invokevirtual 57, 3) := by decide +kernel
theorem dX0_followFields_81 : decode cX0_followFields 81 = .ok (.istore 6, 2) := by decide +kernel
theorem dX0_followFields_83 : decode cX0_followFields 83 = .ok (.iload 6, 2) := by decide +kernel
theorem dX0_followFields_85 : decode cX0_followFields 85 = .ok (.ifCond .ne 5, 3) := by decide +kernel
theorem dX0_followFields_88 : decode cX0_followFields 88 = .ok (.iconst 0, 1) := by decide +kernel
theorem dX0_followFields_89 : decode cX0_followFields 89 = .ok (.ireturn, 1) := by decide +kernel
theorem dX0_followFields_90 : decode cX0_followFields 90 = .ok (.iinc 3 1, 3) := by decide +kernel
theorem dX0_followFields_93 : decode cX0_followFields 93 = .ok (.goto (-91), 3) := by decide +kernel
theorem dX0_followFields_96 : decode cX0_followFields 96 = .ok (.iconst 1, 1) := by decide +kernel
theorem dX0_followFields_97 : decode cX0_followFields 97 = .ok (.ireturn, 1) := by decide +kernel
abbrev cX0_refute : ByteArray := prog_1_method_12_code
def yX0_refute : MethodName := ⟨RX0, "refute", "(I)V"⟩
theorem dX0_refute_0 : decode cX0_refute 0 = .ok (.iload_n 1, 1) := by decide +kernel
theorem dX0_refute_1 : decode cX0_refute 1 = .ok (.istore_n 2, 1) := by decide +kernel
theorem dX0_refute_2 : decode cX0_refute 2 = .ok (.iconst 0, 1) := by decide +kernel
theorem dX0_refute_3 : decode cX0_refute 3 = .ok (.istore_n 3, 1) := by decide +kernel
theorem dX0_refute_4 : decode cX0_refute 4 = .ok (.iload_n 3, 1) := by decide +kernel
theorem dX0_refute_5 : decode cX0_refute 5 = .ok (.sipush 256, 3) := by decide +kernel
theorem dX0_refute_8 : decode cX0_refute 8 = .ok (.if_icmp .ge 27, 3) := by decide +kernel
theorem dX0_refute_11 : decode cX0_refute 11 = .ok (.iload_n 2, 1) := by decide +kernel
theorem dX0_refute_12 : decode cX0_refute 12 = .ok (.ifCond .lt 23, 3) := by decide +kernel
theorem dX0_refute_15 : decode cX0_refute 15 = .ok (.aload_n 0, 1) := by decide +kernel
theorem dX0_refute_16 : decode cX0_refute 16 = .ok (.getfield 26, 3) := by decide +kernel
theorem dX0_refute_19 : decode cX0_refute 19 = .ok (.iload_n 2, 1) := by decide +kernel
theorem dX0_refute_20 : decode cX0_refute 20 = .ok (.iconst 2, 1) := by decide +kernel
theorem dX0_refute_21 : decode cX0_refute 21 = .ok (.bastore, 1) := by decide +kernel
theorem dX0_refute_22 : decode cX0_refute 22 = .ok (.aload_n 0, 1) := by decide +kernel
theorem dX0_refute_23 : decode cX0_refute 23 = .ok (.getfield 33, 3) := by decide +kernel
theorem dX0_refute_26 : decode cX0_refute 26 = .ok (.iload_n 2, 1) := by decide +kernel
theorem dX0_refute_27 : decode cX0_refute 27 = .ok (.iaload, 1) := by decide +kernel
theorem dX0_refute_28 : decode cX0_refute 28 = .ok (.istore_n 2, 1) := by decide +kernel
theorem dX0_refute_29 : decode cX0_refute 29 = .ok (.iinc 3 1, 3) := by decide +kernel
theorem dX0_refute_32 : decode cX0_refute 32 = .ok (.goto (-28), 3) := by decide +kernel
theorem dX0_refute_35 : decode cX0_refute 35 = .ok (.return_, 1) := by decide +kernel
abbrev cX0_equivalent : ByteArray := prog_1_method_17_code
def yX0_equivalent : MethodName := ⟨RX0, "equivalent", "(II)Z"⟩
theorem dX0_equivalent_0 : decode cX0_equivalent 0 = .ok (.iload_n 1, 1) := by decide +kernel
theorem dX0_equivalent_1 : decode cX0_equivalent 1 = .ok (.invokestatic 42, 3) := by decide +kernel
theorem dX0_equivalent_4 : decode cX0_equivalent 4 = .ok (.ifCond .ne 10, 3) := by decide +kernel
theorem dX0_equivalent_7 : decode cX0_equivalent 7 = .ok (.iload_n 2, 1) := by decide +kernel
theorem dX0_equivalent_8 : decode cX0_equivalent 8 = .ok (.invokestatic 42, 3) := by decide +kernel
theorem dX0_equivalent_11 : decode cX0_equivalent 11 = .ok (.ifCond .eq 5, 3) := by decide +kernel
theorem dX0_equivalent_14 : decode cX0_equivalent 14 = .ok (.iconst 0, 1) := by decide +kernel
theorem dX0_equivalent_15 : decode cX0_equivalent 15 = .ok (.ireturn, 1) := by decide +kernel
theorem dX0_equivalent_16 : decode cX0_equivalent 16 = .ok (.aload_n 0, 1) := by decide +kernel
theorem dX0_equivalent_17 : decode cX0_equivalent 17 = .ok (.iload_n 1, 1) := by decide +kernel
theorem dX0_equivalent_18 : decode cX0_equivalent 18 = .ok (.iload_n 2, 1) := by decide +kernel
theorem dX0_equivalent_19 : decode cX0_equivalent 19 = .ok (.invokevirtual 77, 3) := by decide +kernel
theorem dX0_equivalent_22 : decode cX0_equivalent 22 = .ok (.ireturn, 1) := by decide +kernel
abbrev cX0_both : ByteArray := prog_1_method_15_code
def yX0_both : MethodName := ⟨RX0, "both", "(II)Z"⟩
theorem dX0_both_0 : decode cX0_both 0 = .ok (.aload_n 0, 1) := by decide +kernel
theorem dX0_both_1 : decode cX0_both 1 = .ok (.iload_n 1, 1) := by decide +kernel
theorem dX0_both_2 : decode cX0_both 2 = .ok (.iload_n 2, 1) := by decide +kernel
theorem dX0_both_3 : decode cX0_both 3 = .ok (.invokevirtual 74, 3) := by decide +kernel
theorem dX0_both_6 : decode cX0_both 6 = .ok (.istore_n 3, 1) := by decide +kernel
theorem dX0_both_7 : decode cX0_both 7 = .ok (.iload_n 3, 1) := by decide +kernel
theorem dX0_both_8 : decode cX0_both 8 = .ok (.ifCond .eq 16, 3) := by decide +kernel
theorem dX0_both_11 : decode cX0_both 11 = .ok (.aload_n 0, 1) := by decide +kernel
theorem dX0_both_12 : decode cX0_both 12 = .ok (.iload_n 2, 1) := by decide +kernel
theorem dX0_both_13 : decode cX0_both 13 = .ok (.iload_n 1, 1) := by decide +kernel
theorem dX0_both_14 : decode cX0_both 14 = .ok (.invokevirtual 74, 3) := by decide +kernel
theorem dX0_both_17 : decode cX0_both 17 = .ok (.ifCond .eq 7, 3) := by decide +kernel
theorem dX0_both_20 : decode cX0_both 20 = .ok (.iconst 1, 1) := by decide +kernel
theorem dX0_both_21 : decode cX0_both 21 = .ok (.goto 4, 3) := by decide +kernel
theorem dX0_both_24 : decode cX0_both 24 = .ok (.iconst 0, 1) := by decide +kernel
theorem dX0_both_25 : decode cX0_both 25 = .ok (.ireturn, 1) := by decide +kernel
abbrev cX0_subtypes : ByteArray := prog_1_method_18_code
def yX0_subtypes : MethodName := ⟨RX0, "subtypes", "(I)I"⟩
theorem dX0_subtypes_0 : decode cX0_subtypes 0 = .ok (.iload_n 1, 1) := by decide +kernel
theorem dX0_subtypes_1 : decode cX0_subtypes 1 = .ok (.invokestatic 42, 3) := by decide +kernel
theorem dX0_subtypes_4 : decode cX0_subtypes 4 = .ok (.ifCond .eq 5, 3) := by decide +kernel
theorem dX0_subtypes_7 : decode cX0_subtypes 7 = .ok (.iconst (-1), 1) := by decide +kernel
theorem dX0_subtypes_8 : decode cX0_subtypes 8 = .ok (.ireturn, 1) := by decide +kernel
theorem dX0_subtypes_9 : decode cX0_subtypes 9 = .ok (.iconst 0, 1) := by decide +kernel
theorem dX0_subtypes_10 : decode cX0_subtypes 10 = .ok (.istore_n 2, 1) := by decide +kernel
theorem dX0_subtypes_11 : decode cX0_subtypes 11 = .ok (.iconst 0, 1) := by decide +kernel
theorem dX0_subtypes_12 : decode cX0_subtypes 12 = .ok (.istore_n 3, 1) := by decide +kernel
theorem dX0_subtypes_13 : decode cX0_subtypes 13 = .ok (.iload_n 3, 1) := by decide +kernel
theorem dX0_subtypes_14 : decode cX0_subtypes 14 = .ok (.bipush 16, 2) := by decide +kernel
theorem dX0_subtypes_16 : decode cX0_subtypes 16 = .ok (.if_icmp .ge 28, 3) := by decide +kernel
theorem dX0_subtypes_19 : decode cX0_subtypes 19 = .ok (.aload_n 0, 1) := by decide +kernel
theorem dX0_subtypes_20 : decode cX0_subtypes 20 = .ok (.iload_n 3, 1) := by decide +kernel
theorem dX0_subtypes_21 : decode cX0_subtypes 21 = .ok (.iload_n 1, 1) := by decide +kernel
theorem dX0_subtypes_22 : decode cX0_subtypes 22 = .ok (.invokevirtual 74, 3) := by decide +kernel
theorem dX0_subtypes_25 : decode cX0_subtypes 25 = .ok (.istore 4, 2) := by decide +kernel
theorem dX0_subtypes_27 : decode cX0_subtypes 27 = .ok (.iload 4, 2) := by decide +kernel
theorem dX0_subtypes_29 : decode cX0_subtypes 29 = .ok (.ifCond .eq 9, 3) := by decide +kernel
theorem dX0_subtypes_32 : decode cX0_subtypes 32 = .ok (.iload_n 2, 1) := by decide +kernel
theorem dX0_subtypes_33 : decode cX0_subtypes 33 = .ok (.iconst 1, 1) := by decide +kernel
theorem dX0_subtypes_34 : decode cX0_subtypes 34 = .ok (.iload_n 3, 1) := by decide +kernel
theorem dX0_subtypes_35 : decode cX0_subtypes 35 = .ok (.ishl, 1) := by decide +kernel
theorem dX0_subtypes_36 : decode cX0_subtypes 36 = .ok (.ior, 1) := by decide +kernel
theorem dX0_subtypes_37 : decode cX0_subtypes 37 = .ok (.istore_n 2, 1) := by decide +kernel
theorem dX0_subtypes_38 : decode cX0_subtypes 38 = .ok (.iinc 3 1, 3) := by decide +kernel
theorem dX0_subtypes_41 : decode cX0_subtypes 41 = .ok (.goto (-28), 3) := by decide +kernel
theorem dX0_subtypes_44 : decode cX0_subtypes 44 = .ok (.iload_n 2, 1) := by decide +kernel
theorem dX0_subtypes_45 : decode cX0_subtypes 45 = .ok (.ireturn, 1) := by decide +kernel
abbrev cX0_kinds : ByteArray := prog_1_method_19_code
def yX0_kinds : MethodName := ⟨RX0, "kinds", "()I"⟩
theorem dX0_kinds_0 : decode cX0_kinds 0 = .ok (.iconst 0, 1) := by decide +kernel
theorem dX0_kinds_1 : decode cX0_kinds 1 = .ok (.istore_n 1, 1) := by decide +kernel
theorem dX0_kinds_2 : decode cX0_kinds 2 = .ok (.iconst 0, 1) := by decide +kernel
theorem dX0_kinds_3 : decode cX0_kinds 3 = .ok (.istore_n 2, 1) := by decide +kernel
theorem dX0_kinds_4 : decode cX0_kinds 4 = .ok (.iload_n 2, 1) := by decide +kernel
theorem dX0_kinds_5 : decode cX0_kinds 5 = .ok (.bipush 16, 2) := by decide +kernel
theorem dX0_kinds_7 : decode cX0_kinds 7 = .ok (.if_icmp .ge 49, 3) := by decide +kernel
theorem dX0_kinds_10 : decode cX0_kinds 10 = .ok (.iconst 1, 1) := by decide +kernel
theorem dX0_kinds_11 : decode cX0_kinds 11 = .ok (.istore_n 3, 1) := by decide +kernel
theorem dX0_kinds_12 : decode cX0_kinds 12 = .ok (.iconst 0, 1) := by decide +kernel
theorem dX0_kinds_13 : decode cX0_kinds 13 = .ok (.istore 4, 2) := by decide +kernel
theorem dX0_kinds_15 : decode cX0_kinds 15 = .ok (.iload 4, 2) := by decide +kernel
theorem dX0_kinds_17 : decode cX0_kinds 17 = .ok (.iload_n 2, 1) := by decide +kernel
theorem dX0_kinds_18 : decode cX0_kinds 18 = .ok (.if_icmp .ge 25, 3) := by decide +kernel
theorem dX0_kinds_21 : decode cX0_kinds 21 = .ok (.aload_n 0, 1) := by decide +kernel
theorem dX0_kinds_22 : decode cX0_kinds 22 = .ok (.iload 4, 2) := by decide +kernel
theorem dX0_kinds_24 : decode cX0_kinds 24 = .ok (.iload_n 2, 1) := by decide +kernel
theorem dX0_kinds_25 : decode cX0_kinds 25 = .ok (.invokevirtual 77, 3) := by decide +kernel
theorem dX0_kinds_28 : decode cX0_kinds 28 = .ok (.istore 5, 2) := by decide +kernel
theorem dX0_kinds_30 : decode cX0_kinds 30 = .ok (.iload 5, 2) := by decide +kernel
theorem dX0_kinds_32 : decode cX0_kinds 32 = .ok (.ifCond .eq 5, 3) := by decide +kernel
theorem dX0_kinds_35 : decode cX0_kinds 35 = .ok (.iconst 0, 1) := by decide +kernel
theorem dX0_kinds_36 : decode cX0_kinds 36 = .ok (.istore_n 3, 1) := by decide +kernel
theorem dX0_kinds_37 : decode cX0_kinds 37 = .ok (.iinc 4 1, 3) := by decide +kernel
theorem dX0_kinds_40 : decode cX0_kinds 40 = .ok (.goto (-25), 3) := by decide +kernel
theorem dX0_kinds_43 : decode cX0_kinds 43 = .ok (.iload_n 3, 1) := by decide +kernel
theorem dX0_kinds_44 : decode cX0_kinds 44 = .ok (.ifCond .eq 6, 3) := by decide +kernel
theorem dX0_kinds_47 : decode cX0_kinds 47 = .ok (.iinc 1 1, 3) := by decide +kernel
theorem dX0_kinds_50 : decode cX0_kinds 50 = .ok (.iinc 2 1, 3) := by decide +kernel
theorem dX0_kinds_53 : decode cX0_kinds 53 = .ok (.goto (-49), 3) := by decide +kernel
theorem dX0_kinds_56 : decode cX0_kinds 56 = .ok (.iload_n 1, 1) := by decide +kernel
theorem dX0_kinds_57 : decode cX0_kinds 57 = .ok (.ireturn, 1) := by decide +kernel
abbrev cX0_unrelated : ByteArray := prog_1_method_20_code
def yX0_unrelated : MethodName := ⟨RX0, "unrelated", "()I"⟩
theorem dX0_unrelated_0 : decode cX0_unrelated 0 = .ok (.iconst 0, 1) := by decide +kernel
theorem dX0_unrelated_1 : decode cX0_unrelated 1 = .ok (.istore_n 1, 1) := by decide +kernel
theorem dX0_unrelated_2 : decode cX0_unrelated 2 = .ok (.iconst 0, 1) := by decide +kernel
theorem dX0_unrelated_3 : decode cX0_unrelated 3 = .ok (.istore_n 2, 1) := by decide +kernel
theorem dX0_unrelated_4 : decode cX0_unrelated 4 = .ok (.iload_n 2, 1) := by decide +kernel
theorem dX0_unrelated_5 : decode cX0_unrelated 5 = .ok (.bipush 16, 2) := by decide +kernel
theorem dX0_unrelated_7 : decode cX0_unrelated 7 = .ok (.if_icmp .ge 54, 3) := by decide +kernel
theorem dX0_unrelated_10 : decode cX0_unrelated 10 = .ok (.iload_n 2, 1) := by decide +kernel
theorem dX0_unrelated_11 : decode cX0_unrelated 11 = .ok (.iconst 1, 1) := by decide +kernel
theorem dX0_unrelated_12 : decode cX0_unrelated 12 = .ok (.iadd, 1) := by decide +kernel
theorem dX0_unrelated_13 : decode cX0_unrelated 13 = .ok (.istore_n 3, 1) := by decide +kernel
theorem dX0_unrelated_14 : decode cX0_unrelated 14 = .ok (.iload_n 3, 1) := by decide +kernel
theorem dX0_unrelated_15 : decode cX0_unrelated 15 = .ok (.bipush 16, 2) := by decide +kernel
theorem dX0_unrelated_17 : decode cX0_unrelated 17 = .ok (.if_icmp .ge 38, 3) := by decide +kernel
theorem dX0_unrelated_20 : decode cX0_unrelated 20 = .ok (.aload_n 0, 1) := by decide +kernel
theorem dX0_unrelated_21 : decode cX0_unrelated 21 = .ok (.iload_n 2, 1) := by decide +kernel
theorem dX0_unrelated_22 : decode cX0_unrelated 22 = .ok (.iload_n 3, 1) := by decide +kernel
theorem dX0_unrelated_23 : decode cX0_unrelated 23 = .ok (.invokevirtual 74, 3) := by decide +kernel
theorem dX0_unrelated_26 : decode cX0_unrelated 26 = .ok (.istore 4, 2) := by decide +kernel
theorem dX0_unrelated_28 : decode cX0_unrelated 28 = .ok (.aload_n 0, 1) := by decide +kernel
theorem dX0_unrelated_29 : decode cX0_unrelated 29 = .ok (.iload_n 3, 1) := by decide +kernel
theorem dX0_unrelated_30 : decode cX0_unrelated 30 = .ok (.iload_n 2, 1) := by decide +kernel
theorem dX0_unrelated_31 : decode cX0_unrelated 31 = .ok (.invokevirtual 74, 3) := by decide +kernel
theorem dX0_unrelated_34 : decode cX0_unrelated 34 = .ok (.istore 5, 2) := by decide +kernel
theorem dX0_unrelated_36 : decode cX0_unrelated 36 = .ok (.iload 4, 2) := by decide +kernel
theorem dX0_unrelated_38 : decode cX0_unrelated 38 = .ok (.ifCond .ne 11, 3) := by decide +kernel
theorem dX0_unrelated_41 : decode cX0_unrelated 41 = .ok (.iload 5, 2) := by decide +kernel
theorem dX0_unrelated_43 : decode cX0_unrelated 43 = .ok (.ifCond .ne 6, 3) := by decide +kernel
theorem dX0_unrelated_46 : decode cX0_unrelated 46 = .ok (.iinc 1 1, 3) := by decide +kernel
theorem dX0_unrelated_49 : decode cX0_unrelated 49 = .ok (.iinc 3 1, 3) := by decide +kernel
theorem dX0_unrelated_52 : decode cX0_unrelated 52 = .ok (.goto (-38), 3) := by decide +kernel
theorem dX0_unrelated_55 : decode cX0_unrelated 55 = .ok (.iinc 2 1, 3) := by decide +kernel
theorem dX0_unrelated_58 : decode cX0_unrelated 58 = .ok (.goto (-54), 3) := by decide +kernel
theorem dX0_unrelated_61 : decode cX0_unrelated 61 = .ok (.iload_n 1, 1) := by decide +kernel
theorem dX0_unrelated_62 : decode cX0_unrelated 62 = .ok (.ireturn, 1) := by decide +kernel
abbrev cX0_shapeOf : ByteArray := prog_1_method_21_code
def yX0_shapeOf : MethodName := ⟨RX0, "shapeOf", "(I)I"⟩
theorem dX0_shapeOf_0 : decode cX0_shapeOf 0 = .ok (.iload_n 1, 1) := by decide +kernel
theorem dX0_shapeOf_1 : decode cX0_shapeOf 1 = .ok (.invokestatic 42, 3) := by decide +kernel
theorem dX0_shapeOf_4 : decode cX0_shapeOf 4 = .ok (.ifCond .eq 7, 3) := by decide +kernel
theorem dX0_shapeOf_7 : decode cX0_shapeOf 7 = .ok (.iconst (-1), 1) := by decide +kernel
theorem dX0_shapeOf_8 : decode cX0_shapeOf 8 = .ok (.goto 9, 3) := by decide +kernel
theorem dX0_shapeOf_11 : decode cX0_shapeOf 11 = .ok (.aload_n 0, 1) := by decide +kernel
theorem dX0_shapeOf_12 : decode cX0_shapeOf 12 = .ok (.getfield 7, 3) := by decide +kernel
theorem dX0_shapeOf_15 : decode cX0_shapeOf 15 = .ok (.iload_n 1, 1) := by decide +kernel
theorem dX0_shapeOf_16 : decode cX0_shapeOf 16 = .ok (.iaload, 1) := by decide +kernel
theorem dX0_shapeOf_17 : decode cX0_shapeOf 17 = .ok (.ireturn, 1) := by decide +kernel
end
section
set_option maxRecDepth 100000
theorem q16 : (Jvm.Cond.initialized "StructuralTypes") ∈ lw_all := lw_g (lw_at lw_m0 1 rfl) rfl
theorem q19 : (Jvm.Cond.instantiable "StructuralTypes" (11 : Nat)) ∈ lw_all := lw_g (lw_at lw_m0 4 rfl) rfl
theorem q21 : (Jvm.Cond.instanceMethod ({ cls := "StructuralTypes", name := "<init>", desc := "()V" } : Jvm.MethodName)) ∈ lw_all := lw_g (lw_at lw_m0 6 rfl) rfl
theorem q22 : (Jvm.Cond.code ({ cls := "StructuralTypes", name := "<init>", desc := "()V" } : Jvm.MethodName) prog_1_method_1_code (2 : Nat) (Option.none : Option Jvm.ClassFile.FieldType)) ∈ lw_all := lw_g (lw_at lw_m0 7 rfl) rfl
theorem q23 : (Jvm.Cond.methodLink "StructuralTypes" (1 : Nat) ({ cls := "java/lang/Object", name := "<init>", desc := "()V" } : Jvm.MethodName)) ∈ lw_all := lw_g (lw_at lw_m0 8 rfl) rfl
theorem q26 : (Jvm.Cond.fieldLink "StructuralTypes" (7 : Nat) "StructuralTypes" "shapes" "[I") ∈ lw_all := lw_g (lw_at lw_m0 11 rfl) rfl
theorem q27 : (Jvm.Cond.fieldLink "StructuralTypes" (13 : Nat) "StructuralTypes" "argument" "[I") ∈ lw_all := lw_g (lw_at lw_m0 12 rfl) rfl
theorem q28 : (Jvm.Cond.fieldLink "StructuralTypes" (16 : Nat) "StructuralTypes" "result" "[I") ∈ lw_all := lw_g (lw_at lw_m0 13 rfl) rfl
theorem q29 : (Jvm.Cond.fieldLink "StructuralTypes" (19 : Nat) "StructuralTypes" "fields" "[I") ∈ lw_all := lw_g (lw_at lw_m0 14 rfl) rfl
theorem q30 : (Jvm.Cond.fieldLink "StructuralTypes" (22 : Nat) "StructuralTypes" "optional" "[Z") ∈ lw_all := lw_g (lw_at lw_m0 15 rfl) rfl
theorem q31 : (Jvm.Cond.fieldLink "StructuralTypes" (26 : Nat) "StructuralTypes" "known" "[B") ∈ lw_all := lw_g (lw_at lw_m0 16 rfl) rfl
theorem q32 : (Jvm.Cond.fieldLink "StructuralTypes" (54 : Nat) "StructuralTypes" "taken" "I") ∈ lw_all := lw_g (lw_at lw_m0 17 rfl) rfl
theorem q33 : (Jvm.Cond.fieldLink "StructuralTypes" (30 : Nat) "StructuralTypes" "list" "[I") ∈ lw_all := lw_g (lw_at lw_m0 18 rfl) rfl
theorem q34 : (Jvm.Cond.fieldLink "StructuralTypes" (33 : Nat) "StructuralTypes" "askedBy" "[I") ∈ lw_all := lw_g (lw_at lw_m0 19 rfl) rfl
theorem q35 : (Jvm.Cond.fieldLink "StructuralTypes" (36 : Nat) "StructuralTypes" "under" "[Z") ∈ lw_all := lw_g (lw_at lw_m0 20 rfl) rfl
theorem q36 : (Jvm.Cond.fieldLink "StructuralTypes" (50 : Nat) "StructuralTypes" "asking" "I") ∈ lw_all := lw_g (lw_at lw_m0 21 rfl) rfl
theorem q37 : (Jvm.Cond.laysFinal "StructuralTypes" "StructuralTypes" "shapes" "[I") ∈ lw_all := lw_g (lw_at lw_m0 22 rfl) rfl
theorem q38 : (Jvm.Cond.soleField "StructuralTypes" "shapes") ∈ lw_all := lw_g (lw_at lw_m0 23 rfl) rfl
theorem q39 : (Jvm.Cond.laysFinal "StructuralTypes" "StructuralTypes" "argument" "[I") ∈ lw_all := lw_g (lw_at lw_m0 24 rfl) rfl
theorem q40 : (Jvm.Cond.soleField "StructuralTypes" "argument") ∈ lw_all := lw_g (lw_at lw_m0 25 rfl) rfl
theorem q41 : (Jvm.Cond.laysFinal "StructuralTypes" "StructuralTypes" "result" "[I") ∈ lw_all := lw_g (lw_at lw_m0 26 rfl) rfl
theorem q42 : (Jvm.Cond.soleField "StructuralTypes" "result") ∈ lw_all := lw_g (lw_at lw_m0 27 rfl) rfl
theorem q43 : (Jvm.Cond.laysFinal "StructuralTypes" "StructuralTypes" "fields" "[I") ∈ lw_all := lw_g (lw_at lw_m0 28 rfl) rfl
theorem q44 : (Jvm.Cond.soleField "StructuralTypes" "fields") ∈ lw_all := lw_g (lw_at lw_m0 29 rfl) rfl
theorem q45 : (Jvm.Cond.laysFinal "StructuralTypes" "StructuralTypes" "optional" "[Z") ∈ lw_all := lw_g (lw_at lw_m0 30 rfl) rfl
theorem q46 : (Jvm.Cond.soleField "StructuralTypes" "optional") ∈ lw_all := lw_g (lw_at lw_m0 31 rfl) rfl
theorem q47 : (Jvm.Cond.laysFinal "StructuralTypes" "StructuralTypes" "known" "[B") ∈ lw_all := lw_g (lw_at lw_m0 32 rfl) rfl
theorem q48 : (Jvm.Cond.soleField "StructuralTypes" "known") ∈ lw_all := lw_g (lw_at lw_m0 33 rfl) rfl
theorem q49 : (Jvm.Cond.lays "StructuralTypes" "StructuralTypes" "taken" "I") ∈ lw_all := lw_g (lw_at lw_m0 34 rfl) rfl
theorem q50 : (Jvm.Cond.soleField "StructuralTypes" "taken") ∈ lw_all := lw_g (lw_at lw_m0 35 rfl) rfl
theorem q51 : (Jvm.Cond.laysFinal "StructuralTypes" "StructuralTypes" "list" "[I") ∈ lw_all := lw_g (lw_at lw_m0 36 rfl) rfl
theorem q52 : (Jvm.Cond.soleField "StructuralTypes" "list") ∈ lw_all := lw_g (lw_at lw_m0 37 rfl) rfl
theorem q53 : (Jvm.Cond.laysFinal "StructuralTypes" "StructuralTypes" "askedBy" "[I") ∈ lw_all := lw_g (lw_at lw_m0 38 rfl) rfl
theorem q54 : (Jvm.Cond.soleField "StructuralTypes" "askedBy") ∈ lw_all := lw_g (lw_at lw_m0 39 rfl) rfl
theorem q55 : (Jvm.Cond.laysFinal "StructuralTypes" "StructuralTypes" "under" "[Z") ∈ lw_all := lw_g (lw_at lw_m0 40 rfl) rfl
theorem q56 : (Jvm.Cond.soleField "StructuralTypes" "under") ∈ lw_all := lw_g (lw_at lw_m0 41 rfl) rfl
theorem q57 : (Jvm.Cond.lays "StructuralTypes" "StructuralTypes" "asking" "I") ∈ lw_all := lw_g (lw_at lw_m0 42 rfl) rfl
theorem q58 : (Jvm.Cond.soleField "StructuralTypes" "asking") ∈ lw_all := lw_g (lw_at lw_m0 43 rfl) rfl
theorem q59 : (Jvm.Cond.superclass "StructuralTypes" "java/lang/Object") ∈ lw_all := lw_g (lw_at lw_m0 44 rfl) rfl
theorem q64 : (Jvm.Cond.instanceMethod ({ cls := "StructuralTypes", name := "shape", desc := "(II)I" } : Jvm.MethodName)) ∈ lw_all := lw_g (lw_at lw_m0 49 rfl) rfl
theorem q65 : (Jvm.Cond.selects "StructuralTypes" ({ cls := "StructuralTypes", name := "shape", desc := "(II)I" } : Jvm.MethodName) ({ cls := "StructuralTypes", name := "shape", desc := "(II)I" } : Jvm.MethodName)) ∈ lw_all := lw_g (lw_at lw_m0 50 rfl) rfl
theorem q66 : (Jvm.Cond.code ({ cls := "StructuralTypes", name := "shape", desc := "(II)I" } : Jvm.MethodName) prog_1_method_5_code (3 : Nat) (Option.some Jvm.ClassFile.FieldType.int)) ∈ lw_all := lw_g (lw_at lw_m0 51 rfl) rfl
theorem q67 : (Jvm.Cond.methodLink "StructuralTypes" (42 : Nat) ({ cls := "StructuralTypes", name := "bad", desc := "(I)Z" } : Jvm.MethodName)) ∈ lw_all := lw_g (lw_at lw_m0 52 rfl) rfl
theorem q68 : (Jvm.Cond.static ({ cls := "StructuralTypes", name := "bad", desc := "(I)Z" } : Jvm.MethodName)) ∈ lw_all := lw_g (lw_at lw_m0 53 rfl) rfl
theorem q69 : (Jvm.Cond.code ({ cls := "StructuralTypes", name := "bad", desc := "(I)Z" } : Jvm.MethodName) prog_1_method_2_code (1 : Nat) (Option.some Jvm.ClassFile.FieldType.boolean)) ∈ lw_all := lw_g (lw_at lw_m0 54 rfl) rfl
theorem q70 : (Jvm.Cond.methodLink "StructuralTypes" (46 : Nat) ({ cls := "StructuralTypes", name := "become", desc := "(II)I" } : Jvm.MethodName)) ∈ lw_all := lw_g (lw_at lw_m0 55 rfl) rfl
theorem q71 : (Jvm.Cond.privateMethod ({ cls := "StructuralTypes", name := "become", desc := "(II)I" } : Jvm.MethodName)) ∈ lw_tbl := lw_at lw_m0 56 rfl
theorem q72 : (Jvm.Cond.instanceMethod ({ cls := "StructuralTypes", name := "become", desc := "(II)I" } : Jvm.MethodName)) ∈ lw_all := lw_g (lw_at lw_m0 57 rfl) rfl
theorem q73 : (Jvm.Cond.code ({ cls := "StructuralTypes", name := "become", desc := "(II)I" } : Jvm.MethodName) prog_1_method_4_code (5 : Nat) (Option.some Jvm.ClassFile.FieldType.int)) ∈ lw_all := lw_g (lw_at lw_m0 58 rfl) rfl
theorem q74 : (Jvm.Cond.methodLink "StructuralTypes" (39 : Nat) ({ cls := "StructuralTypes", name := "forgetAll", desc := "()V" } : Jvm.MethodName)) ∈ lw_all := lw_g (lw_at lw_m0 59 rfl) rfl
theorem q75 : (Jvm.Cond.privateMethod ({ cls := "StructuralTypes", name := "forgetAll", desc := "()V" } : Jvm.MethodName)) ∈ lw_tbl := lw_at lw_m0 60 rfl
theorem q76 : (Jvm.Cond.instanceMethod ({ cls := "StructuralTypes", name := "forgetAll", desc := "()V" } : Jvm.MethodName)) ∈ lw_all := lw_g (lw_at lw_m0 61 rfl) rfl
theorem q77 : (Jvm.Cond.code ({ cls := "StructuralTypes", name := "forgetAll", desc := "()V" } : Jvm.MethodName) prog_1_method_3_code (2 : Nat) (Option.none : Option Jvm.ClassFile.FieldType)) ∈ lw_all := lw_g (lw_at lw_m0 62 rfl) rfl
theorem q79 : (Jvm.Cond.instanceMethod ({ cls := "StructuralTypes", name := "fun", desc := "(III)I" } : Jvm.MethodName)) ∈ lw_all := lw_g (lw_at lw_m0 64 rfl) rfl
theorem q80 : (Jvm.Cond.selects "StructuralTypes" ({ cls := "StructuralTypes", name := "fun", desc := "(III)I" } : Jvm.MethodName) ({ cls := "StructuralTypes", name := "fun", desc := "(III)I" } : Jvm.MethodName)) ∈ lw_all := lw_g (lw_at lw_m0 65 rfl) rfl
theorem q81 : (Jvm.Cond.code ({ cls := "StructuralTypes", name := "fun", desc := "(III)I" } : Jvm.MethodName) prog_1_method_6_code (5 : Nat) (Option.some Jvm.ClassFile.FieldType.int)) ∈ lw_all := lw_g (lw_at lw_m0 66 rfl) rfl
theorem q83 : (Jvm.Cond.instanceMethod ({ cls := "StructuralTypes", name := "field", desc := "(IIII)I" } : Jvm.MethodName)) ∈ lw_all := lw_g (lw_at lw_m0 68 rfl) rfl
theorem q84 : (Jvm.Cond.selects "StructuralTypes" ({ cls := "StructuralTypes", name := "field", desc := "(IIII)I" } : Jvm.MethodName) ({ cls := "StructuralTypes", name := "field", desc := "(IIII)I" } : Jvm.MethodName)) ∈ lw_all := lw_g (lw_at lw_m0 69 rfl) rfl
theorem q85 : (Jvm.Cond.code ({ cls := "StructuralTypes", name := "field", desc := "(IIII)I" } : Jvm.MethodName) prog_1_method_7_code (7 : Nat) (Option.some Jvm.ClassFile.FieldType.int)) ∈ lw_all := lw_g (lw_at lw_m0 70 rfl) rfl
theorem q87 : (Jvm.Cond.instanceMethod ({ cls := "StructuralTypes", name := "dropField", desc := "(II)I" } : Jvm.MethodName)) ∈ lw_all := lw_g (lw_at lw_m0 72 rfl) rfl
theorem q88 : (Jvm.Cond.selects "StructuralTypes" ({ cls := "StructuralTypes", name := "dropField", desc := "(II)I" } : Jvm.MethodName) ({ cls := "StructuralTypes", name := "dropField", desc := "(II)I" } : Jvm.MethodName)) ∈ lw_all := lw_g (lw_at lw_m0 73 rfl) rfl
theorem q89 : (Jvm.Cond.code ({ cls := "StructuralTypes", name := "dropField", desc := "(II)I" } : Jvm.MethodName) prog_1_method_8_code (5 : Nat) (Option.some Jvm.ClassFile.FieldType.int)) ∈ lw_all := lw_g (lw_at lw_m0 74 rfl) rfl
theorem q91 : (Jvm.Cond.instanceMethod ({ cls := "StructuralTypes", name := "subtype", desc := "(II)Z" } : Jvm.MethodName)) ∈ lw_all := lw_g (lw_at lw_m0 76 rfl) rfl
theorem q92 : (Jvm.Cond.selects "StructuralTypes" ({ cls := "StructuralTypes", name := "subtype", desc := "(II)Z" } : Jvm.MethodName) ({ cls := "StructuralTypes", name := "subtype", desc := "(II)Z" } : Jvm.MethodName)) ∈ lw_all := lw_g (lw_at lw_m0 77 rfl) rfl
theorem q93 : (Jvm.Cond.code ({ cls := "StructuralTypes", name := "subtype", desc := "(II)Z" } : Jvm.MethodName) prog_1_method_16_code (3 : Nat) (Option.some Jvm.ClassFile.FieldType.boolean)) ∈ lw_all := lw_g (lw_at lw_m0 78 rfl) rfl
theorem q94 : (Jvm.Cond.methodLink "StructuralTypes" (74 : Nat) ({ cls := "StructuralTypes", name := "isSubtype", desc := "(II)Z" } : Jvm.MethodName)) ∈ lw_all := lw_g (lw_at lw_m0 79 rfl) rfl
theorem q95 : (Jvm.Cond.privateMethod ({ cls := "StructuralTypes", name := "isSubtype", desc := "(II)Z" } : Jvm.MethodName)) ∈ lw_tbl := lw_at lw_m0 80 rfl
theorem q96 : (Jvm.Cond.instanceMethod ({ cls := "StructuralTypes", name := "isSubtype", desc := "(II)Z" } : Jvm.MethodName)) ∈ lw_all := lw_g (lw_at lw_m0 81 rfl) rfl
theorem q97 : (Jvm.Cond.code ({ cls := "StructuralTypes", name := "isSubtype", desc := "(II)Z" } : Jvm.MethodName) prog_1_method_14_code (4 : Nat) (Option.some Jvm.ClassFile.FieldType.boolean)) ∈ lw_all := lw_g (lw_at lw_m0 82 rfl) rfl
theorem q98 : (Jvm.Cond.methodLink "StructuralTypes" (71 : Nat) ({ cls := "StructuralTypes", name := "decide", desc := "(II)Z" } : Jvm.MethodName)) ∈ lw_all := lw_g (lw_at lw_m0 83 rfl) rfl
theorem q99 : (Jvm.Cond.privateMethod ({ cls := "StructuralTypes", name := "decide", desc := "(II)Z" } : Jvm.MethodName)) ∈ lw_tbl := lw_at lw_m0 84 rfl
theorem q100 : (Jvm.Cond.instanceMethod ({ cls := "StructuralTypes", name := "decide", desc := "(II)Z" } : Jvm.MethodName)) ∈ lw_all := lw_g (lw_at lw_m0 85 rfl) rfl
theorem q101 : (Jvm.Cond.code ({ cls := "StructuralTypes", name := "decide", desc := "(II)Z" } : Jvm.MethodName) prog_1_method_13_code (5 : Nat) (Option.some Jvm.ClassFile.FieldType.boolean)) ∈ lw_all := lw_g (lw_at lw_m0 86 rfl) rfl
theorem q102 : (Jvm.Cond.methodLink "StructuralTypes" (57 : Nat) ({ cls := "StructuralTypes", name := "ask", desc := "(II)Z" } : Jvm.MethodName)) ∈ lw_all := lw_g (lw_at lw_m0 87 rfl) rfl
theorem q103 : (Jvm.Cond.privateMethod ({ cls := "StructuralTypes", name := "ask", desc := "(II)Z" } : Jvm.MethodName)) ∈ lw_tbl := lw_at lw_m0 88 rfl
theorem q104 : (Jvm.Cond.instanceMethod ({ cls := "StructuralTypes", name := "ask", desc := "(II)Z" } : Jvm.MethodName)) ∈ lw_all := lw_g (lw_at lw_m0 89 rfl) rfl
theorem q105 : (Jvm.Cond.code ({ cls := "StructuralTypes", name := "ask", desc := "(II)Z" } : Jvm.MethodName) prog_1_method_9_code (4 : Nat) (Option.some Jvm.ClassFile.FieldType.boolean)) ∈ lw_all := lw_g (lw_at lw_m0 90 rfl) rfl
theorem q106 : (Jvm.Cond.methodLink "StructuralTypes" (64 : Nat) ({ cls := "StructuralTypes", name := "follow", desc := "(II)Z" } : Jvm.MethodName)) ∈ lw_all := lw_g (lw_at lw_m0 91 rfl) rfl
theorem q107 : (Jvm.Cond.privateMethod ({ cls := "StructuralTypes", name := "follow", desc := "(II)Z" } : Jvm.MethodName)) ∈ lw_tbl := lw_at lw_m0 92 rfl
theorem q108 : (Jvm.Cond.instanceMethod ({ cls := "StructuralTypes", name := "follow", desc := "(II)Z" } : Jvm.MethodName)) ∈ lw_all := lw_g (lw_at lw_m0 93 rfl) rfl
theorem q109 : (Jvm.Cond.code ({ cls := "StructuralTypes", name := "follow", desc := "(II)Z" } : Jvm.MethodName) prog_1_method_10_code (6 : Nat) (Option.some Jvm.ClassFile.FieldType.boolean)) ∈ lw_all := lw_g (lw_at lw_m0 94 rfl) rfl
theorem q110 : (Jvm.Cond.methodLink "StructuralTypes" (61 : Nat) ({ cls := "StructuralTypes", name := "followFields", desc := "(II)Z" } : Jvm.MethodName)) ∈ lw_all := lw_g (lw_at lw_m0 95 rfl) rfl
theorem q111 : (Jvm.Cond.privateMethod ({ cls := "StructuralTypes", name := "followFields", desc := "(II)Z" } : Jvm.MethodName)) ∈ lw_tbl := lw_at lw_m0 96 rfl
theorem q112 : (Jvm.Cond.instanceMethod ({ cls := "StructuralTypes", name := "followFields", desc := "(II)Z" } : Jvm.MethodName)) ∈ lw_all := lw_g (lw_at lw_m0 97 rfl) rfl
theorem q113 : (Jvm.Cond.code ({ cls := "StructuralTypes", name := "followFields", desc := "(II)Z" } : Jvm.MethodName) prog_1_method_11_code (7 : Nat) (Option.some Jvm.ClassFile.FieldType.boolean)) ∈ lw_all := lw_g (lw_at lw_m0 98 rfl) rfl
theorem q114 : (Jvm.Cond.methodLink "StructuralTypes" (67 : Nat) ({ cls := "StructuralTypes", name := "refute", desc := "(I)V" } : Jvm.MethodName)) ∈ lw_all := lw_g (lw_at lw_m0 99 rfl) rfl
theorem q115 : (Jvm.Cond.privateMethod ({ cls := "StructuralTypes", name := "refute", desc := "(I)V" } : Jvm.MethodName)) ∈ lw_tbl := lw_at lw_m0 100 rfl
theorem q116 : (Jvm.Cond.instanceMethod ({ cls := "StructuralTypes", name := "refute", desc := "(I)V" } : Jvm.MethodName)) ∈ lw_all := lw_g (lw_at lw_m0 101 rfl) rfl
theorem q117 : (Jvm.Cond.code ({ cls := "StructuralTypes", name := "refute", desc := "(I)V" } : Jvm.MethodName) prog_1_method_12_code (4 : Nat) (Option.none : Option Jvm.ClassFile.FieldType)) ∈ lw_all := lw_g (lw_at lw_m0 102 rfl) rfl
theorem q119 : (Jvm.Cond.instanceMethod ({ cls := "StructuralTypes", name := "equivalent", desc := "(II)Z" } : Jvm.MethodName)) ∈ lw_all := lw_g (lw_at lw_m0 104 rfl) rfl
theorem q120 : (Jvm.Cond.selects "StructuralTypes" ({ cls := "StructuralTypes", name := "equivalent", desc := "(II)Z" } : Jvm.MethodName) ({ cls := "StructuralTypes", name := "equivalent", desc := "(II)Z" } : Jvm.MethodName)) ∈ lw_all := lw_g (lw_at lw_m0 105 rfl) rfl
theorem q121 : (Jvm.Cond.code ({ cls := "StructuralTypes", name := "equivalent", desc := "(II)Z" } : Jvm.MethodName) prog_1_method_17_code (3 : Nat) (Option.some Jvm.ClassFile.FieldType.boolean)) ∈ lw_all := lw_g (lw_at lw_m0 106 rfl) rfl
theorem q122 : (Jvm.Cond.methodLink "StructuralTypes" (77 : Nat) ({ cls := "StructuralTypes", name := "both", desc := "(II)Z" } : Jvm.MethodName)) ∈ lw_all := lw_g (lw_at lw_m0 107 rfl) rfl
theorem q123 : (Jvm.Cond.privateMethod ({ cls := "StructuralTypes", name := "both", desc := "(II)Z" } : Jvm.MethodName)) ∈ lw_tbl := lw_at lw_m0 108 rfl
theorem q124 : (Jvm.Cond.instanceMethod ({ cls := "StructuralTypes", name := "both", desc := "(II)Z" } : Jvm.MethodName)) ∈ lw_all := lw_g (lw_at lw_m0 109 rfl) rfl
theorem q125 : (Jvm.Cond.code ({ cls := "StructuralTypes", name := "both", desc := "(II)Z" } : Jvm.MethodName) prog_1_method_15_code (4 : Nat) (Option.some Jvm.ClassFile.FieldType.boolean)) ∈ lw_all := lw_g (lw_at lw_m0 110 rfl) rfl
theorem q127 : (Jvm.Cond.instanceMethod ({ cls := "StructuralTypes", name := "subtypes", desc := "(I)I" } : Jvm.MethodName)) ∈ lw_all := lw_g (lw_at lw_m0 112 rfl) rfl
theorem q128 : (Jvm.Cond.selects "StructuralTypes" ({ cls := "StructuralTypes", name := "subtypes", desc := "(I)I" } : Jvm.MethodName) ({ cls := "StructuralTypes", name := "subtypes", desc := "(I)I" } : Jvm.MethodName)) ∈ lw_all := lw_g (lw_at lw_m0 113 rfl) rfl
theorem q129 : (Jvm.Cond.code ({ cls := "StructuralTypes", name := "subtypes", desc := "(I)I" } : Jvm.MethodName) prog_1_method_18_code (5 : Nat) (Option.some Jvm.ClassFile.FieldType.int)) ∈ lw_all := lw_g (lw_at lw_m0 114 rfl) rfl
theorem q131 : (Jvm.Cond.instanceMethod ({ cls := "StructuralTypes", name := "kinds", desc := "()I" } : Jvm.MethodName)) ∈ lw_all := lw_g (lw_at lw_m0 116 rfl) rfl
theorem q132 : (Jvm.Cond.selects "StructuralTypes" ({ cls := "StructuralTypes", name := "kinds", desc := "()I" } : Jvm.MethodName) ({ cls := "StructuralTypes", name := "kinds", desc := "()I" } : Jvm.MethodName)) ∈ lw_all := lw_g (lw_at lw_m0 117 rfl) rfl
theorem q133 : (Jvm.Cond.code ({ cls := "StructuralTypes", name := "kinds", desc := "()I" } : Jvm.MethodName) prog_1_method_19_code (6 : Nat) (Option.some Jvm.ClassFile.FieldType.int)) ∈ lw_all := lw_g (lw_at lw_m0 118 rfl) rfl
theorem q135 : (Jvm.Cond.instanceMethod ({ cls := "StructuralTypes", name := "unrelated", desc := "()I" } : Jvm.MethodName)) ∈ lw_all := lw_g (lw_at lw_m0 120 rfl) rfl
theorem q136 : (Jvm.Cond.selects "StructuralTypes" ({ cls := "StructuralTypes", name := "unrelated", desc := "()I" } : Jvm.MethodName) ({ cls := "StructuralTypes", name := "unrelated", desc := "()I" } : Jvm.MethodName)) ∈ lw_all := lw_g (lw_at lw_m0 121 rfl) rfl
theorem q137 : (Jvm.Cond.code ({ cls := "StructuralTypes", name := "unrelated", desc := "()I" } : Jvm.MethodName) prog_1_method_20_code (6 : Nat) (Option.some Jvm.ClassFile.FieldType.int)) ∈ lw_all := lw_g (lw_at lw_m0 122 rfl) rfl
theorem q139 : (Jvm.Cond.instanceMethod ({ cls := "StructuralTypes", name := "shapeOf", desc := "(I)I" } : Jvm.MethodName)) ∈ lw_all := lw_g (lw_at lw_m0 124 rfl) rfl
theorem q140 : (Jvm.Cond.selects "StructuralTypes" ({ cls := "StructuralTypes", name := "shapeOf", desc := "(I)I" } : Jvm.MethodName) ({ cls := "StructuralTypes", name := "shapeOf", desc := "(I)I" } : Jvm.MethodName)) ∈ lw_all := lw_g (lw_at lw_m0 125 rfl) rfl
theorem q141 : (Jvm.Cond.code ({ cls := "StructuralTypes", name := "shapeOf", desc := "(I)I" } : Jvm.MethodName) prog_1_method_21_code (2 : Nat) (Option.some Jvm.ClassFile.FieldType.int)) ∈ lw_all := lw_g (lw_at lw_m0 126 rfl) rfl
theorem in_X0 : ∀ w ∈ wsX00, w ∈ lw_all := lw_in wsX00 [37, 39, 41, 43, 45, 47, 49, 51, 53, 55, 57] (by decide +kernel) (by decide +kernel)
end
section
/-! StructuralTypesModel -/
set_option maxRecDepth 100000
def RX1 : String := "StructuralTypesModel"
def TX1 : u_T := fun k => match k with
  | 0 => ("StructuralTypesModel", "shapes", "[I", true)
  | 1 => ("StructuralTypesModel", "arguments", "[I", true)
  | 2 => ("StructuralTypesModel", "results", "[I", true)
  | 3 => ("StructuralTypesModel", "fields", "[I", true)
  | 4 => ("StructuralTypesModel", "optional", "[Z", true)
  | 5 => ("StructuralTypesModel", "known", "Z", false)
  | _ => ("StructuralTypesModel", "below", "[Z", true)
def tyX1 : Nat → FieldType := fun k => match k with
  | 0 => .array .int
  | 1 => .array .int
  | 2 => .array .int
  | 3 => .array .int
  | 4 => .array .boolean
  | 5 => .boolean
  | _ => .array .boolean
abbrev wsX10 : List Cond := u_ws RX1 TX1 7
theorem nmX1 : ∀ a, a < 7 → ∀ b, b < 7 → a ≠ b → (TX1 a).2.1 ≠ (TX1 b).2.1 := by decide +kernel
theorem tyX1_ok : ∀ k, k < 7 → parseFieldDescriptor (TX1 k).2.2.1 = some (tyX1 k) := by decide +kernel
abbrev cX1_init : ByteArray := prog_3_method_1_code
def yX1_init : MethodName := ⟨RX1, "<init>", "()V"⟩
theorem dX1_init_0 : decode cX1_init 0 = .ok (.aload_n 0, 1) := by decide +kernel
theorem dX1_init_1 : decode cX1_init 1 = .ok (.invokespecial 1, 3) := by decide +kernel
theorem dX1_init_4 : decode cX1_init 4 = .ok (.aload_n 0, 1) := by decide +kernel
theorem dX1_init_5 : decode cX1_init 5 = .ok (.bipush 16, 2) := by decide +kernel
theorem dX1_init_7 : decode cX1_init 7 = .ok (.newarray .int, 2) := by decide +kernel
theorem dX1_init_9 : decode cX1_init 9 = .ok (.putfield 7, 3) := by decide +kernel
theorem dX1_init_12 : decode cX1_init 12 = .ok (.aload_n 0, 1) := by decide +kernel
theorem dX1_init_13 : decode cX1_init 13 = .ok (.bipush 16, 2) := by decide +kernel
theorem dX1_init_15 : decode cX1_init 15 = .ok (.newarray .int, 2) := by decide +kernel
theorem dX1_init_17 : decode cX1_init 17 = .ok (.putfield 13, 3) := by decide +kernel
theorem dX1_init_20 : decode cX1_init 20 = .ok (.aload_n 0, 1) := by decide +kernel
theorem dX1_init_21 : decode cX1_init 21 = .ok (.bipush 16, 2) := by decide +kernel
theorem dX1_init_23 : decode cX1_init 23 = .ok (.newarray .int, 2) := by decide +kernel
theorem dX1_init_25 : decode cX1_init 25 = .ok (.putfield 16, 3) := by decide +kernel
theorem dX1_init_28 : decode cX1_init 28 = .ok (.aload_n 0, 1) := by decide +kernel
theorem dX1_init_29 : decode cX1_init 29 = .ok (.bipush 64, 2) := by decide +kernel
theorem dX1_init_31 : decode cX1_init 31 = .ok (.newarray .int, 2) := by decide +kernel
theorem dX1_init_33 : decode cX1_init 33 = .ok (.putfield 19, 3) := by decide +kernel
theorem dX1_init_36 : decode cX1_init 36 = .ok (.aload_n 0, 1) := by decide +kernel
theorem dX1_init_37 : decode cX1_init 37 = .ok (.bipush 64, 2) := by decide +kernel
theorem dX1_init_39 : decode cX1_init 39 = .ok (.newarray .boolean, 2) := by decide +kernel
theorem dX1_init_41 : decode cX1_init 41 = .ok (.putfield 22, 3) := by decide +kernel
theorem dX1_init_44 : decode cX1_init 44 = .ok (.aload_n 0, 1) := by decide +kernel
theorem dX1_init_45 : decode cX1_init 45 = .ok (.sipush 256, 3) := by decide +kernel
theorem dX1_init_48 : decode cX1_init 48 = .ok (.newarray .boolean, 2) := by decide +kernel
theorem dX1_init_50 : decode cX1_init 50 = .ok (.putfield 26, 3) := by decide +kernel
theorem dX1_init_53 : decode cX1_init 53 = .ok (.return_, 1) := by decide +kernel
abbrev cX1_shape : ByteArray := prog_3_method_3_code
def yX1_shape : MethodName := ⟨RX1, "shape", "(II)I"⟩
theorem dX1_shape_0 : decode cX1_shape 0 = .ok (.aload_n 0, 1) := by decide +kernel
theorem dX1_shape_1 : decode cX1_shape 1 = .ok (.iload_n 1, 1) := by decide +kernel
theorem dX1_shape_2 : decode cX1_shape 2 = .ok (.invokevirtual 29, 3) := by decide +kernel
theorem dX1_shape_5 : decode cX1_shape 5 = .ok (.ifCond .eq 5, 3) := by decide +kernel
theorem dX1_shape_8 : decode cX1_shape 8 = .ok (.iconst (-1), 1) := by decide +kernel
theorem dX1_shape_9 : decode cX1_shape 9 = .ok (.ireturn, 1) := by decide +kernel
theorem dX1_shape_10 : decode cX1_shape 10 = .ok (.iload_n 2, 1) := by decide +kernel
theorem dX1_shape_11 : decode cX1_shape 11 = .ok (.ifCond .lt 13, 3) := by decide +kernel
theorem dX1_shape_14 : decode cX1_shape 14 = .ok (.iload_n 2, 1) := by decide +kernel
theorem dX1_shape_15 : decode cX1_shape 15 = .ok (.iconst 5, 1) := by decide +kernel
theorem dX1_shape_16 : decode cX1_shape 16 = .ok (.if_icmp .gt 8, 3) := by decide +kernel
theorem dX1_shape_19 : decode cX1_shape 19 = .ok (.iload_n 2, 1) := by decide +kernel
theorem dX1_shape_20 : decode cX1_shape 20 = .ok (.iconst 4, 1) := by decide +kernel
theorem dX1_shape_21 : decode cX1_shape 21 = .ok (.if_icmp .ne 6, 3) := by decide +kernel
theorem dX1_shape_24 : decode cX1_shape 24 = .ok (.bipush (-4), 2) := by decide +kernel
theorem dX1_shape_26 : decode cX1_shape 26 = .ok (.ireturn, 1) := by decide +kernel
theorem dX1_shape_27 : decode cX1_shape 27 = .ok (.aload_n 0, 1) := by decide +kernel
theorem dX1_shape_28 : decode cX1_shape 28 = .ok (.getfield 7, 3) := by decide +kernel
theorem dX1_shape_31 : decode cX1_shape 31 = .ok (.iload_n 1, 1) := by decide +kernel
theorem dX1_shape_32 : decode cX1_shape 32 = .ok (.iaload, 1) := by decide +kernel
theorem dX1_shape_33 : decode cX1_shape 33 = .ok (.istore_n 3, 1) := by decide +kernel
theorem dX1_shape_34 : decode cX1_shape 34 = .ok (.aload_n 0, 1) := by decide +kernel
theorem dX1_shape_35 : decode cX1_shape 35 = .ok (.getfield 7, 3) := by decide +kernel
theorem dX1_shape_38 : decode cX1_shape 38 = .ok (.iload_n 1, 1) := by decide +kernel
theorem dX1_shape_39 : decode cX1_shape 39 = .ok (.iload_n 2, 1) := by decide +kernel
theorem dX1_shape_40 : decode cX1_shape 40 = .ok (.iastore, 1) := by decide +kernel
theorem dX1_shape_41 : decode cX1_shape 41 = .ok (.iconst 0, 1) := by decide +kernel
theorem dX1_shape_42 : decode cX1_shape 42 = .ok (.istore 4, 2) := by decide +kernel
theorem dX1_shape_44 : decode cX1_shape 44 = .ok (.iload 4, 2) := by decide +kernel
theorem dX1_shape_46 : decode cX1_shape 46 = .ok (.iconst 4, 1) := by decide +kernel
theorem dX1_shape_47 : decode cX1_shape 47 = .ok (.if_icmp .ge 21, 3) := by decide +kernel
theorem dX1_shape_50 : decode cX1_shape 50 = .ok (.aload_n 0, 1) := by decide +kernel
theorem dX1_shape_51 : decode cX1_shape 51 = .ok (.getfield 19, 3) := by decide +kernel
theorem dX1_shape_54 : decode cX1_shape 54 = .ok (.iload_n 1, 1) := by decide +kernel
theorem dX1_shape_55 : decode cX1_shape 55 = .ok (.iconst 4, 1) := by decide +kernel
theorem dX1_shape_56 : decode cX1_shape 56 = .ok (.imul, 1) := by decide +kernel
theorem dX1_shape_57 : decode cX1_shape 57 = .ok (.iload 4, 2) := by decide +kernel
theorem dX1_shape_59 : decode cX1_shape 59 = .ok (.iadd, 1) := by decide +kernel
theorem dX1_shape_60 : decode cX1_shape 60 = .ok (.iconst (-1), 1) := by decide +kernel
theorem dX1_shape_61 : decode cX1_shape 61 = .ok (.iastore, 1) := by decide +kernel
theorem dX1_shape_62 : decode cX1_shape 62 = .ok (.iinc 4 1, 3) := by decide +kernel
theorem dX1_shape_65 : decode cX1_shape 65 = .ok (.goto (-21), 3) := by decide +kernel
theorem dX1_shape_68 : decode cX1_shape 68 = .ok (.aload_n 0, 1) := by decide +kernel
theorem dX1_shape_69 : decode cX1_shape 69 = .ok (.iconst 0, 1) := by decide +kernel
theorem dX1_shape_70 : decode cX1_shape 70 = .ok (.putfield 33, 3) := by decide +kernel
theorem dX1_shape_73 : decode cX1_shape 73 = .ok (.iload_n 3, 1) := by decide +kernel
theorem dX1_shape_74 : decode cX1_shape 74 = .ok (.ireturn, 1) := by decide +kernel
abbrev cX1_bad : ByteArray := prog_3_method_2_code
def yX1_bad : MethodName := ⟨RX1, "bad", "(I)Z"⟩
theorem dX1_bad_0 : decode cX1_bad 0 = .ok (.iload_n 1, 1) := by decide +kernel
theorem dX1_bad_1 : decode cX1_bad 1 = .ok (.ifCond .lt 9, 3) := by decide +kernel
theorem dX1_bad_4 : decode cX1_bad 4 = .ok (.iload_n 1, 1) := by decide +kernel
theorem dX1_bad_5 : decode cX1_bad 5 = .ok (.bipush 15, 2) := by decide +kernel
theorem dX1_bad_7 : decode cX1_bad 7 = .ok (.if_icmp .le 7, 3) := by decide +kernel
theorem dX1_bad_10 : decode cX1_bad 10 = .ok (.iconst 1, 1) := by decide +kernel
theorem dX1_bad_11 : decode cX1_bad 11 = .ok (.goto 4, 3) := by decide +kernel
theorem dX1_bad_14 : decode cX1_bad 14 = .ok (.iconst 0, 1) := by decide +kernel
theorem dX1_bad_15 : decode cX1_bad 15 = .ok (.ireturn, 1) := by decide +kernel
abbrev cX1_fun : ByteArray := prog_3_method_4_code
def yX1_fun : MethodName := ⟨RX1, "fun", "(III)I"⟩
theorem dX1_fun_0 : decode cX1_fun 0 = .ok (.aload_n 0, 1) := by decide +kernel
theorem dX1_fun_1 : decode cX1_fun 1 = .ok (.iload_n 1, 1) := by decide +kernel
theorem dX1_fun_2 : decode cX1_fun 2 = .ok (.invokevirtual 29, 3) := by decide +kernel
theorem dX1_fun_5 : decode cX1_fun 5 = .ok (.ifCond .ne 19, 3) := by decide +kernel
theorem dX1_fun_8 : decode cX1_fun 8 = .ok (.aload_n 0, 1) := by decide +kernel
theorem dX1_fun_9 : decode cX1_fun 9 = .ok (.iload_n 2, 1) := by decide +kernel
theorem dX1_fun_10 : decode cX1_fun 10 = .ok (.invokevirtual 29, 3) := by decide +kernel
theorem dX1_fun_13 : decode cX1_fun 13 = .ok (.ifCond .ne 11, 3) := by decide +kernel
theorem dX1_fun_16 : decode cX1_fun 16 = .ok (.aload_n 0, 1) := by decide +kernel
theorem dX1_fun_17 : decode cX1_fun 17 = .ok (.iload_n 3, 1) := by decide +kernel
theorem dX1_fun_18 : decode cX1_fun 18 = .ok (.invokevirtual 29, 3) := by decide +kernel
theorem dX1_fun_21 : decode cX1_fun 21 = .ok (.ifCond .eq 5, 3) := by decide +kernel
theorem dX1_fun_24 : decode cX1_fun 24 = .ok (.iconst (-1), 1) := by decide +kernel
theorem dX1_fun_25 : decode cX1_fun 25 = .ok (.ireturn, 1) := by decide +kernel
theorem dX1_fun_26 : decode cX1_fun 26 = .ok (.aload_n 0, 1) := by decide +kernel
theorem dX1_fun_27 : decode cX1_fun 27 = .ok (.getfield 7, 3) := by decide +kernel
theorem dX1_fun_30 : decode cX1_fun 30 = .ok (.iload_n 1, 1) := by decide +kernel
theorem dX1_fun_31 : decode cX1_fun 31 = .ok (.iaload, 1) := by decide +kernel
theorem dX1_fun_32 : decode cX1_fun 32 = .ok (.istore 4, 2) := by decide +kernel
theorem dX1_fun_34 : decode cX1_fun 34 = .ok (.aload_n 0, 1) := by decide +kernel
theorem dX1_fun_35 : decode cX1_fun 35 = .ok (.getfield 7, 3) := by decide +kernel
theorem dX1_fun_38 : decode cX1_fun 38 = .ok (.iload_n 1, 1) := by decide +kernel
theorem dX1_fun_39 : decode cX1_fun 39 = .ok (.iconst 4, 1) := by decide +kernel
theorem dX1_fun_40 : decode cX1_fun 40 = .ok (.iastore, 1) := by decide +kernel
theorem dX1_fun_41 : decode cX1_fun 41 = .ok (.aload_n 0, 1) := by decide +kernel
theorem dX1_fun_42 : decode cX1_fun 42 = .ok (.getfield 13, 3) := by decide +kernel
theorem dX1_fun_45 : decode cX1_fun 45 = .ok (.iload_n 1, 1) := by decide +kernel
theorem dX1_fun_46 : decode cX1_fun 46 = .ok (.iload_n 2, 1) := by decide +kernel
theorem dX1_fun_47 : decode cX1_fun 47 = .ok (.iastore, 1) := by decide +kernel
theorem dX1_fun_48 : decode cX1_fun 48 = .ok (.aload_n 0, 1) := by decide +kernel
theorem dX1_fun_49 : decode cX1_fun 49 = .ok (.getfield 16, 3) := by decide +kernel
theorem dX1_fun_52 : decode cX1_fun 52 = .ok (.iload_n 1, 1) := by decide +kernel
theorem dX1_fun_53 : decode cX1_fun 53 = .ok (.iload_n 3, 1) := by decide +kernel
theorem dX1_fun_54 : decode cX1_fun 54 = .ok (.iastore, 1) := by decide +kernel
theorem dX1_fun_55 : decode cX1_fun 55 = .ok (.aload_n 0, 1) := by decide +kernel
theorem dX1_fun_56 : decode cX1_fun 56 = .ok (.iconst 0, 1) := by decide +kernel
theorem dX1_fun_57 : decode cX1_fun 57 = .ok (.putfield 33, 3) := by decide +kernel
theorem dX1_fun_60 : decode cX1_fun 60 = .ok (.iload 4, 2) := by decide +kernel
theorem dX1_fun_62 : decode cX1_fun 62 = .ok (.ireturn, 1) := by decide +kernel
abbrev cX1_field : ByteArray := prog_3_method_6_code
def yX1_field : MethodName := ⟨RX1, "field", "(IIII)I"⟩
theorem dX1_field_0 : decode cX1_field 0 = .ok (.aload_n 0, 1) := by decide +kernel
theorem dX1_field_1 : decode cX1_field 1 = .ok (.iload_n 3, 1) := by decide +kernel
theorem dX1_field_2 : decode cX1_field 2 = .ok (.invokevirtual 29, 3) := by decide +kernel
theorem dX1_field_5 : decode cX1_field 5 = .ok (.ifCond .eq 5, 3) := by decide +kernel
theorem dX1_field_8 : decode cX1_field 8 = .ok (.iconst (-1), 1) := by decide +kernel
theorem dX1_field_9 : decode cX1_field 9 = .ok (.ireturn, 1) := by decide +kernel
theorem dX1_field_10 : decode cX1_field 10 = .ok (.aload_n 0, 1) := by decide +kernel
theorem dX1_field_11 : decode cX1_field 11 = .ok (.iload_n 1, 1) := by decide +kernel
theorem dX1_field_12 : decode cX1_field 12 = .ok (.iload_n 2, 1) := by decide +kernel
theorem dX1_field_13 : decode cX1_field 13 = .ok (.invokevirtual 37, 3) := by decide +kernel
theorem dX1_field_16 : decode cX1_field 16 = .ok (.istore 5, 2) := by decide +kernel
theorem dX1_field_18 : decode cX1_field 18 = .ok (.iload 5, 2) := by decide +kernel
theorem dX1_field_20 : decode cX1_field 20 = .ok (.ifCond .ge 6, 3) := by decide +kernel
theorem dX1_field_23 : decode cX1_field 23 = .ok (.iload 5, 2) := by decide +kernel
theorem dX1_field_25 : decode cX1_field 25 = .ok (.ireturn, 1) := by decide +kernel
theorem dX1_field_26 : decode cX1_field 26 = .ok (.aload_n 0, 1) := by decide +kernel
theorem dX1_field_27 : decode cX1_field 27 = .ok (.iload_n 1, 1) := by decide +kernel
theorem dX1_field_28 : decode cX1_field 28 = .ok (.iconst 4, 1) := by decide +kernel
theorem dX1_field_29 : decode cX1_field 29 = .ok (.imul, 1) := by decide +kernel
theorem dX1_field_30 : decode cX1_field 30 = .ok (.iload_n 2, 1) := by decide +kernel
theorem dX1_field_31 : decode cX1_field 31 = .ok (.iadd, 1) := by decide +kernel
theorem dX1_field_32 : decode cX1_field 32 = .ok (.iload_n 3, 1) := by decide +kernel
theorem dX1_field_33 : decode cX1_field 33 = .ok (.iload 4, 2) := by decide +kernel
theorem dX1_field_35 : decode cX1_field 35 = .ok (.ifCond .eq 7, 3) := by decide +kernel
theorem dX1_field_38 : decode cX1_field 38 = .ok (.iconst 1, 1) := by decide +kernel
theorem dX1_field_39 : decode cX1_field 39 = .ok (.goto 4, 3) := by decide +kernel
theorem dX1_field_42 : decode cX1_field 42 = .ok (.iconst 0, 1) := by decide +kernel
theorem dX1_field_43 : decode cX1_field 43 = .ok (.invokevirtual 41, 3) := by decide +kernel
theorem dX1_field_46 : decode cX1_field 46 = .ok (.ireturn, 1) := by decide +kernel
abbrev cX1_refusal : ByteArray := prog_3_method_5_code
def yX1_refusal : MethodName := ⟨RX1, "refusal", "(II)I"⟩
theorem dX1_refusal_0 : decode cX1_refusal 0 = .ok (.aload_n 0, 1) := by decide +kernel
theorem dX1_refusal_1 : decode cX1_refusal 1 = .ok (.iload_n 1, 1) := by decide +kernel
theorem dX1_refusal_2 : decode cX1_refusal 2 = .ok (.invokevirtual 29, 3) := by decide +kernel
theorem dX1_refusal_5 : decode cX1_refusal 5 = .ok (.ifCond .eq 5, 3) := by decide +kernel
theorem dX1_refusal_8 : decode cX1_refusal 8 = .ok (.iconst (-1), 1) := by decide +kernel
theorem dX1_refusal_9 : decode cX1_refusal 9 = .ok (.ireturn, 1) := by decide +kernel
theorem dX1_refusal_10 : decode cX1_refusal 10 = .ok (.iload_n 2, 1) := by decide +kernel
theorem dX1_refusal_11 : decode cX1_refusal 11 = .ok (.ifCond .lt 8, 3) := by decide +kernel
theorem dX1_refusal_14 : decode cX1_refusal 14 = .ok (.iload_n 2, 1) := by decide +kernel
theorem dX1_refusal_15 : decode cX1_refusal 15 = .ok (.iconst 3, 1) := by decide +kernel
theorem dX1_refusal_16 : decode cX1_refusal 16 = .ok (.if_icmp .le 6, 3) := by decide +kernel
theorem dX1_refusal_19 : decode cX1_refusal 19 = .ok (.bipush (-2), 2) := by decide +kernel
theorem dX1_refusal_21 : decode cX1_refusal 21 = .ok (.ireturn, 1) := by decide +kernel
theorem dX1_refusal_22 : decode cX1_refusal 22 = .ok (.aload_n 0, 1) := by decide +kernel
theorem dX1_refusal_23 : decode cX1_refusal 23 = .ok (.getfield 7, 3) := by decide +kernel
theorem dX1_refusal_26 : decode cX1_refusal 26 = .ok (.iload_n 1, 1) := by decide +kernel
theorem dX1_refusal_27 : decode cX1_refusal 27 = .ok (.iaload, 1) := by decide +kernel
theorem dX1_refusal_28 : decode cX1_refusal 28 = .ok (.iconst 5, 1) := by decide +kernel
theorem dX1_refusal_29 : decode cX1_refusal 29 = .ok (.if_icmp .ne 7, 3) := by decide +kernel
theorem dX1_refusal_32 : decode cX1_refusal 32 = .ok (.iconst 0, 1) := by decide +kernel
theorem dX1_refusal_33 : decode cX1_refusal 33 = .ok (.goto 5, 3) := by decide +kernel
theorem dX1_refusal_36 : decode cX1_refusal 36 = .ok (.bipush (-3), 2) := by decide +kernel
theorem dX1_refusal_38 : decode cX1_refusal 38 = .ok (.ireturn, 1) := by decide +kernel
abbrev cX1_setField : ByteArray := prog_3_method_7_code
def yX1_setField : MethodName := ⟨RX1, "setField", "(IIZ)I"⟩
theorem dX1_setField_0 : decode cX1_setField 0 = .ok (.aload_n 0, 1) := by decide +kernel
theorem dX1_setField_1 : decode cX1_setField 1 = .ok (.getfield 19, 3) := by decide +kernel
theorem dX1_setField_4 : decode cX1_setField 4 = .ok (.iload_n 1, 1) := by decide +kernel
theorem dX1_setField_5 : decode cX1_setField 5 = .ok (.iaload, 1) := by decide +kernel
theorem dX1_setField_6 : decode cX1_setField 6 = .ok (.ifCond .lt 7, 3) := by decide +kernel
theorem dX1_setField_9 : decode cX1_setField 9 = .ok (.iconst 1, 1) := by decide +kernel
theorem dX1_setField_10 : decode cX1_setField 10 = .ok (.goto 4, 3) := by decide +kernel
theorem dX1_setField_13 : decode cX1_setField 13 = .ok (.iconst 0, 1) := by decide +kernel
theorem dX1_setField_14 : decode cX1_setField 14 = .ok (.istore 4, 2) := by decide +kernel
theorem dX1_setField_16 : decode cX1_setField 16 = .ok (.aload_n 0, 1) := by decide +kernel
theorem dX1_setField_17 : decode cX1_setField 17 = .ok (.getfield 19, 3) := by decide +kernel
theorem dX1_setField_20 : decode cX1_setField 20 = .ok (.iload_n 1, 1) := by decide +kernel
theorem dX1_setField_21 : decode cX1_setField 21 = .ok (.iload_n 2, 1) := by decide +kernel
theorem dX1_setField_22 : decode cX1_setField 22 = .ok (.iastore, 1) := by decide +kernel
theorem dX1_setField_23 : decode cX1_setField 23 = .ok (.aload_n 0, 1) := by decide +kernel
theorem dX1_setField_24 : decode cX1_setField 24 = .ok (.getfield 22, 3) := by decide +kernel
theorem dX1_setField_27 : decode cX1_setField 27 = .ok (.iload_n 1, 1) := by decide +kernel
theorem dX1_setField_28 : decode cX1_setField 28 = .ok (.iload_n 3, 1) := by decide +kernel
theorem dX1_setField_29 : decode cX1_setField 29 = .ok (.bastore, 1) := by decide +kernel
theorem dX1_setField_30 : decode cX1_setField 30 = .ok (.aload_n 0, 1) := by decide +kernel
theorem dX1_setField_31 : decode cX1_setField 31 = .ok (.iconst 0, 1) := by decide +kernel
theorem dX1_setField_32 : decode cX1_setField 32 = .ok (.putfield 33, 3) := by decide +kernel
theorem dX1_setField_35 : decode cX1_setField 35 = .ok (.iload 4, 2) := by decide +kernel
theorem dX1_setField_37 : decode cX1_setField 37 = .ok (.ireturn, 1) := by decide +kernel
abbrev cX1_dropField : ByteArray := prog_3_method_8_code
def yX1_dropField : MethodName := ⟨RX1, "dropField", "(II)I"⟩
theorem dX1_dropField_0 : decode cX1_dropField 0 = .ok (.aload_n 0, 1) := by decide +kernel
theorem dX1_dropField_1 : decode cX1_dropField 1 = .ok (.iload_n 1, 1) := by decide +kernel
theorem dX1_dropField_2 : decode cX1_dropField 2 = .ok (.iload_n 2, 1) := by decide +kernel
theorem dX1_dropField_3 : decode cX1_dropField 3 = .ok (.invokevirtual 37, 3) := by decide +kernel
theorem dX1_dropField_6 : decode cX1_dropField 6 = .ok (.istore_n 3, 1) := by decide +kernel
theorem dX1_dropField_7 : decode cX1_dropField 7 = .ok (.iload_n 3, 1) := by decide +kernel
theorem dX1_dropField_8 : decode cX1_dropField 8 = .ok (.ifCond .ge 5, 3) := by decide +kernel
theorem dX1_dropField_11 : decode cX1_dropField 11 = .ok (.iload_n 3, 1) := by decide +kernel
theorem dX1_dropField_12 : decode cX1_dropField 12 = .ok (.ireturn, 1) := by decide +kernel
theorem dX1_dropField_13 : decode cX1_dropField 13 = .ok (.aload_n 0, 1) := by decide +kernel
theorem dX1_dropField_14 : decode cX1_dropField 14 = .ok (.iload_n 1, 1) := by decide +kernel
theorem dX1_dropField_15 : decode cX1_dropField 15 = .ok (.iconst 4, 1) := by decide +kernel
theorem dX1_dropField_16 : decode cX1_dropField 16 = .ok (.imul, 1) := by decide +kernel
theorem dX1_dropField_17 : decode cX1_dropField 17 = .ok (.iload_n 2, 1) := by decide +kernel
theorem dX1_dropField_18 : decode cX1_dropField 18 = .ok (.iadd, 1) := by decide +kernel
theorem dX1_dropField_19 : decode cX1_dropField 19 = .ok (.iconst (-1), 1) := by decide +kernel
theorem dX1_dropField_20 : decode cX1_dropField 20 = .ok (.iconst 0, 1) := by decide +kernel
theorem dX1_dropField_21 : decode cX1_dropField 21 = .ok (.invokevirtual 41, 3) := by decide +kernel
theorem dX1_dropField_24 : decode cX1_dropField 24 = .ok (.ireturn, 1) := by decide +kernel
abbrev cX1_subtype : ByteArray := prog_3_method_12_code
def yX1_subtype : MethodName := ⟨RX1, "subtype", "(II)Z"⟩
theorem dX1_subtype_0 : decode cX1_subtype 0 = .ok (.aload_n 0, 1) := by decide +kernel
theorem dX1_subtype_1 : decode cX1_subtype 1 = .ok (.iload_n 1, 1) := by decide +kernel
theorem dX1_subtype_2 : decode cX1_subtype 2 = .ok (.invokevirtual 29, 3) := by decide +kernel
theorem dX1_subtype_5 : decode cX1_subtype 5 = .ok (.ifCond .ne 11, 3) := by decide +kernel
theorem dX1_subtype_8 : decode cX1_subtype 8 = .ok (.aload_n 0, 1) := by decide +kernel
theorem dX1_subtype_9 : decode cX1_subtype 9 = .ok (.iload_n 2, 1) := by decide +kernel
theorem dX1_subtype_10 : decode cX1_subtype 10 = .ok (.invokevirtual 29, 3) := by decide +kernel
theorem dX1_subtype_13 : decode cX1_subtype 13 = .ok (.ifCond .eq 5, 3) := by decide +kernel
theorem dX1_subtype_16 : decode cX1_subtype 16 = .ok (.iconst 0, 1) := by decide +kernel
theorem dX1_subtype_17 : decode cX1_subtype 17 = .ok (.ireturn, 1) := by decide +kernel
theorem dX1_subtype_18 : decode cX1_subtype 18 = .ok (.aload_n 0, 1) := by decide +kernel
theorem dX1_subtype_19 : decode cX1_subtype 19 = .ok (.invokevirtual 52, 3) := by decide +kernel
theorem dX1_subtype_22 : decode cX1_subtype 22 = .ok (.aload_n 0, 1) := by decide +kernel
theorem dX1_subtype_23 : decode cX1_subtype 23 = .ok (.getfield 26, 3) := by decide +kernel
theorem dX1_subtype_26 : decode cX1_subtype 26 = .ok (.iload_n 1, 1) := by decide +kernel
theorem dX1_subtype_27 : decode cX1_subtype 27 = .ok (.bipush 16, 2) := by decide +kernel
theorem dX1_subtype_29 : decode cX1_subtype 29 = .ok (.imul, 1) := by decide +kernel
theorem dX1_subtype_30 : decode cX1_subtype 30 = .ok (.iload_n 2, 1) := by decide +kernel
theorem dX1_subtype_31 : decode cX1_subtype 31 = .ok (.iadd, 1) := by decide +kernel
theorem dX1_subtype_32 : decode cX1_subtype 32 = .ok (.baload, 1) := by decide +kernel
theorem dX1_subtype_33 : decode cX1_subtype 33 = .ok (.ireturn, 1) := by decide +kernel
abbrev cX1_strike : ByteArray := prog_3_method_11_code
def yX1_strike : MethodName := ⟨RX1, "strike", "()V"⟩
theorem dX1_strike_0 : decode cX1_strike 0 = .ok (.aload_n 0, 1) := by decide +kernel
theorem dX1_strike_1 : decode cX1_strike 1 = .ok (.getfield 33, 3) := by decide +kernel
theorem dX1_strike_4 : decode cX1_strike 4 = .ok (.ifCond .eq 4, 3) := by decide +kernel
theorem dX1_strike_7 : decode cX1_strike 7 = .ok (.return_, 1) := by decide +kernel
theorem dX1_strike_8 : decode cX1_strike 8 = .ok (.aload_n 0, 1) := by decide +kernel
theorem dX1_strike_9 : decode cX1_strike 9 = .ok (.iconst 1, 1) := by decide +kernel
theorem dX1_strike_10 : decode cX1_strike 10 = .ok (.putfield 33, 3) := by decide +kernel
theorem dX1_strike_13 : decode cX1_strike 13 = .ok (.iconst 0, 1) := by decide +kernel
theorem dX1_strike_14 : decode cX1_strike 14 = .ok (.istore_n 1, 1) := by decide +kernel
theorem dX1_strike_15 : decode cX1_strike 15 = .ok (.iload_n 1, 1) := by decide +kernel
theorem dX1_strike_16 : decode cX1_strike 16 = .ok (.sipush 256, 3) := by decide +kernel
theorem dX1_strike_19 : decode cX1_strike 19 = .ok (.if_icmp .ge 16, 3) := by decide +kernel
theorem dX1_strike_22 : decode cX1_strike 22 = .ok (.aload_n 0, 1) := by decide +kernel
theorem dX1_strike_23 : decode cX1_strike 23 = .ok (.getfield 26, 3) := by decide +kernel
theorem dX1_strike_26 : decode cX1_strike 26 = .ok (.iload_n 1, 1) := by decide +kernel
theorem dX1_strike_27 : decode cX1_strike 27 = .ok (.iconst 1, 1) := by decide +kernel
theorem dX1_strike_28 : decode cX1_strike 28 = .ok (.bastore, 1) := by decide +kernel
theorem dX1_strike_29 : decode cX1_strike 29 = .ok (.iinc 1 1, 3) := by decide +kernel
theorem dX1_strike_32 : decode cX1_strike 32 = .ok (.goto (-17), 3) := by decide +kernel
theorem dX1_strike_35 : decode cX1_strike 35 = .ok (.iconst 1, 1) := by decide +kernel
theorem dX1_strike_36 : decode cX1_strike 36 = .ok (.istore_n 1, 1) := by decide +kernel
theorem dX1_strike_37 : decode cX1_strike 37 = .ok (.iconst 0, 1) := by decide +kernel
theorem dX1_strike_38 : decode cX1_strike 38 = .ok (.istore_n 2, 1) := by decide +kernel
theorem dX1_strike_39 : decode cX1_strike 39 = .ok (.iload_n 2, 1) := by decide +kernel
theorem dX1_strike_40 : decode cX1_strike 40 = .ok (.sipush 257, 3) := by decide +kernel
theorem dX1_strike_43 : decode cX1_strike 43 = .ok (.if_icmp .ge 63, 3) := by decide +kernel
theorem dX1_strike_46 : decode cX1_strike 46 = .ok (.iload_n 1, 1) := by decide +kernel
theorem dX1_strike_47 : decode cX1_strike 47 = .ok (.ifCond .eq 59, 3) := by decide +kernel
theorem dX1_strike_50 : decode cX1_strike 50 = .ok (.iconst 0, 1) := by decide +kernel
theorem dX1_strike_51 : decode cX1_strike 51 = .ok (.istore_n 1, 1) := by decide +kernel
theorem dX1_strike_52 : decode cX1_strike 52 = .ok (.iconst 0, 1) := by decide +kernel
theorem dX1_strike_53 : decode cX1_strike 53 = .ok (.istore_n 3, 1) := by decide +kernel
theorem dX1_strike_54 : decode cX1_strike 54 = .ok (.iload_n 3, 1) := by decide +kernel
theorem dX1_strike_55 : decode cX1_strike 55 = .ok (.sipush 256, 3) := by decide +kernel
theorem dX1_strike_58 : decode cX1_strike 58 = .ok (.if_icmp .ge 42, 3) := by decide +kernel
theorem dX1_strike_61 : decode cX1_strike 61 = .ok (.aload_n 0, 1) := by decide +kernel
theorem dX1_strike_62 : decode cX1_strike 62 = .ok (.getfield 26, 3) := by decide +kernel
theorem dX1_strike_65 : decode cX1_strike 65 = .ok (.iload_n 3, 1) := by decide +kernel
theorem dX1_strike_66 : decode cX1_strike 66 = .ok (.baload, 1) := by decide +kernel
theorem dX1_strike_67 : decode cX1_strike 67 = .ok (.ifCond .eq 27, 3) := by decide +kernel
theorem dX1_strike_70 : decode cX1_strike 70 = .ok (.aload_n 0, 1) := by decide +kernel
theorem dX1_strike_71 : decode cX1_strike 71 = .ok (.iload_n 3, 1) := by decide +kernel
theorem dX1_strike_72 : decode cX1_strike 72 = .ok (.bipush 16, 2) := by decide +kernel
theorem dX1_strike_74 : decode cX1_strike 74 = .ok (.idiv, 1) := by decide +kernel
theorem dX1_strike_75 : decode cX1_strike 75 = .ok (.iload_n 3, 1) := by decide +kernel
theorem dX1_strike_76 : decode cX1_strike 76 = .ok (.bipush 16, 2) := by decide +kernel
theorem dX1_strike_78 : decode cX1_strike 78 = .ok (.irem, 1) := by decide +kernel
theorem dX1_strike_79 : decode cX1_strike 79 = .ok (.invokevirtual 49, 3) := by decide +kernel
theorem dX1_strike_82 : decode cX1_strike 82 = .ok (.ifCond .ne 12, 3) := by decide +kernel
theorem dX1_strike_85 : decode cX1_strike 85 = .ok (.aload_n 0, 1) := by decide +kernel
theorem dX1_strike_86 : decode cX1_strike 86 = .ok (.getfield 26, 3) := by decide +kernel
theorem dX1_strike_89 : decode cX1_strike 89 = .ok (.iload_n 3, 1) := by decide +kernel
theorem dX1_strike_90 : decode cX1_strike 90 = .ok (.iconst 0, 1) := by decide +kernel
theorem dX1_strike_91 : decode cX1_strike 91 = .ok (.bastore, 1) := by decide +kernel
theorem dX1_strike_92 : decode cX1_strike 92 = .ok (.iconst 1, 1) := by decide +kernel
theorem dX1_strike_93 : decode cX1_strike 93 = .ok (.istore_n 1, 1) := by decide +kernel
theorem dX1_strike_94 : decode cX1_strike 94 = .ok (.iinc 3 1, 3) := by decide +kernel
theorem dX1_strike_97 : decode cX1_strike 97 = .ok (.goto (-43), 3) := by decide +kernel
theorem dX1_strike_100 : decode cX1_strike 100 = .ok (.iinc 2 1, 3) := by decide +kernel
theorem dX1_strike_103 : decode cX1_strike 103 = .ok (.goto (-64), 3) := by decide +kernel
theorem dX1_strike_106 : decode cX1_strike 106 = .ok (.return_, 1) := by decide +kernel
end
section
set_option maxRecDepth 100000
abbrev cX1_holds : ByteArray := prog_3_method_10_code
def yX1_holds : MethodName := ⟨RX1, "holds", "(II)Z"⟩
theorem dX1_holds_0 : decode cX1_holds 0 = .ok (.aload_n 0, 1) := by decide +kernel
theorem dX1_holds_1 : decode cX1_holds 1 = .ok (.getfield 7, 3) := by decide +kernel
theorem dX1_holds_4 : decode cX1_holds 4 = .ok (.iload_n 2, 1) := by decide +kernel
theorem dX1_holds_5 : decode cX1_holds 5 = .ok (.iaload, 1) := by decide +kernel
theorem dX1_holds_6 : decode cX1_holds 6 = .ok (.iconst 2, 1) := by decide +kernel
theorem dX1_holds_7 : decode cX1_holds 7 = .ok (.if_icmp .eq 13, 3) := by decide +kernel
theorem dX1_holds_10 : decode cX1_holds 10 = .ok (.aload_n 0, 1) := by decide +kernel
theorem dX1_holds_11 : decode cX1_holds 11 = .ok (.getfield 7, 3) := by decide +kernel
theorem dX1_holds_14 : decode cX1_holds 14 = .ok (.iload_n 1, 1) := by decide +kernel
theorem dX1_holds_15 : decode cX1_holds 15 = .ok (.iaload, 1) := by decide +kernel
theorem dX1_holds_16 : decode cX1_holds 16 = .ok (.iconst 3, 1) := by decide +kernel
theorem dX1_holds_17 : decode cX1_holds 17 = .ok (.if_icmp .ne 5, 3) := by decide +kernel
theorem dX1_holds_20 : decode cX1_holds 20 = .ok (.iconst 1, 1) := by decide +kernel
theorem dX1_holds_21 : decode cX1_holds 21 = .ok (.ireturn, 1) := by decide +kernel
theorem dX1_holds_22 : decode cX1_holds 22 = .ok (.aload_n 0, 1) := by decide +kernel
theorem dX1_holds_23 : decode cX1_holds 23 = .ok (.getfield 7, 3) := by decide +kernel
theorem dX1_holds_26 : decode cX1_holds 26 = .ok (.iload_n 1, 1) := by decide +kernel
theorem dX1_holds_27 : decode cX1_holds 27 = .ok (.iaload, 1) := by decide +kernel
theorem dX1_holds_28 : decode cX1_holds 28 = .ok (.aload_n 0, 1) := by decide +kernel
theorem dX1_holds_29 : decode cX1_holds 29 = .ok (.getfield 7, 3) := by decide +kernel
theorem dX1_holds_32 : decode cX1_holds 32 = .ok (.iload_n 2, 1) := by decide +kernel
theorem dX1_holds_33 : decode cX1_holds 33 = .ok (.iaload, 1) := by decide +kernel
theorem dX1_holds_34 : decode cX1_holds 34 = .ok (.if_icmp .eq 5, 3) := by decide +kernel
theorem dX1_holds_37 : decode cX1_holds 37 = .ok (.iconst 0, 1) := by decide +kernel
theorem dX1_holds_38 : decode cX1_holds 38 = .ok (.ireturn, 1) := by decide +kernel
theorem dX1_holds_39 : decode cX1_holds 39 = .ok (.aload_n 0, 1) := by decide +kernel
theorem dX1_holds_40 : decode cX1_holds 40 = .ok (.getfield 7, 3) := by decide +kernel
theorem dX1_holds_43 : decode cX1_holds 43 = .ok (.iload_n 1, 1) := by decide +kernel
theorem dX1_holds_44 : decode cX1_holds 44 = .ok (.iaload, 1) := by decide +kernel
theorem dX1_holds_45 : decode cX1_holds 45 = .ok (.iconst 4, 1) := by decide +kernel
theorem dX1_holds_46 : decode cX1_holds 46 = .ok (.if_icmp .ne 57, 3) := by decide +kernel
theorem dX1_holds_49 : decode cX1_holds 49 = .ok (.aload_n 0, 1) := by decide +kernel
theorem dX1_holds_50 : decode cX1_holds 50 = .ok (.getfield 26, 3) := by decide +kernel
theorem dX1_holds_53 : decode cX1_holds 53 = .ok (.aload_n 0, 1) := by decide +kernel
theorem dX1_holds_54 : decode cX1_holds 54 = .ok (.getfield 13, 3) := by decide +kernel
theorem dX1_holds_57 : decode cX1_holds 57 = .ok (.iload_n 2, 1) := by decide +kernel
theorem dX1_holds_58 : decode cX1_holds 58 = .ok (.iaload, 1) := by decide +kernel
theorem dX1_holds_59 : decode cX1_holds 59 = .ok (.bipush 16, 2) := by decide +kernel
theorem dX1_holds_61 : decode cX1_holds 61 = .ok (.imul, 1) := by decide +kernel
theorem dX1_holds_62 : decode cX1_holds 62 = .ok (.aload_n 0, 1) := by decide +kernel
theorem dX1_holds_63 : decode cX1_holds 63 = .ok (.getfield 13, 3) := by decide +kernel
theorem dX1_holds_66 : decode cX1_holds 66 = .ok (.iload_n 1, 1) := by decide +kernel
theorem dX1_holds_67 : decode cX1_holds 67 = .ok (.iaload, 1) := by decide +kernel
theorem dX1_holds_68 : decode cX1_holds 68 = .ok (.iadd, 1) := by decide +kernel
theorem dX1_holds_69 : decode cX1_holds 69 = .ok (.baload, 1) := by decide +kernel
theorem dX1_holds_70 : decode cX1_holds 70 = .ok (.ifCond .eq 31, 3) := by decide +kernel
theorem dX1_holds_73 : decode cX1_holds 73 = .ok (.aload_n 0, 1) := by decide +kernel
theorem dX1_holds_74 : decode cX1_holds 74 = .ok (.getfield 26, 3) := by decide +kernel
theorem dX1_holds_77 : decode cX1_holds 77 = .ok (.aload_n 0, 1) := by decide +kernel
theorem dX1_holds_78 : decode cX1_holds 78 = .ok (.getfield 16, 3) := by decide +kernel
theorem dX1_holds_81 : decode cX1_holds 81 = .ok (.iload_n 1, 1) := by decide +kernel
theorem dX1_holds_82 : decode cX1_holds 82 = .ok (.iaload, 1) := by decide +kernel
theorem dX1_holds_83 : decode cX1_holds 83 = .ok (.bipush 16, 2) := by decide +kernel
theorem dX1_holds_85 : decode cX1_holds 85 = .ok (.imul, 1) := by decide +kernel
theorem dX1_holds_86 : decode cX1_holds 86 = .ok (.aload_n 0, 1) := by decide +kernel
theorem dX1_holds_87 : decode cX1_holds 87 = .ok (.getfield 16, 3) := by decide +kernel
theorem dX1_holds_90 : decode cX1_holds 90 = .ok (.iload_n 2, 1) := by decide +kernel
theorem dX1_holds_91 : decode cX1_holds 91 = .ok (.iaload, 1) := by decide +kernel
theorem dX1_holds_92 : decode cX1_holds 92 = .ok (.iadd, 1) := by decide +kernel
theorem dX1_holds_93 : decode cX1_holds 93 = .ok (.baload, 1) := by decide +kernel
theorem dX1_holds_94 : decode cX1_holds 94 = .ok (.ifCond .eq 7, 3) := by decide +kernel
theorem dX1_holds_97 : decode cX1_holds 97 = .ok (.iconst 1, 1) := by decide +kernel
theorem dX1_holds_98 : decode cX1_holds 98 = .ok (.goto 4, 3) := by decide +kernel
theorem dX1_holds_101 : decode cX1_holds 101 = .ok (.iconst 0, 1) := by decide +kernel
theorem dX1_holds_102 : decode cX1_holds 102 = .ok (.ireturn, 1) := by decide +kernel
theorem dX1_holds_103 : decode cX1_holds 103 = .ok (.aload_n 0, 1) := by decide +kernel
theorem dX1_holds_104 : decode cX1_holds 104 = .ok (.getfield 7, 3) := by decide +kernel
theorem dX1_holds_107 : decode cX1_holds 107 = .ok (.iload_n 1, 1) := by decide +kernel
theorem dX1_holds_108 : decode cX1_holds 108 = .ok (.iaload, 1) := by decide +kernel
theorem dX1_holds_109 : decode cX1_holds 109 = .ok (.iconst 5, 1) := by decide +kernel
theorem dX1_holds_110 : decode cX1_holds 110 = .ok (.if_icmp .ne 73, 3) := by decide +kernel
theorem dX1_holds_113 : decode cX1_holds 113 = .ok (.aload_n 0, 1) := by decide +kernel
theorem dX1_holds_114 : decode cX1_holds 114 = .ok (.iload_n 1, 1) := by decide +kernel
theorem dX1_holds_115 : decode cX1_holds 115 = .ok (.iconst 4, 1) := by decide +kernel
theorem dX1_holds_116 : decode cX1_holds 116 = .ok (.imul, 1) := by decide +kernel
theorem dX1_holds_117 : decode cX1_holds 117 = .ok (.iload_n 2, 1) := by decide +kernel
theorem dX1_holds_118 : decode cX1_holds 118 = .ok (.iconst 4, 1) := by decide +kernel
theorem dX1_holds_119 : decode cX1_holds 119 = .ok (.imul, 1) := by decide +kernel
theorem dX1_holds_120 : decode cX1_holds 120 = .ok (.invokevirtual 45, 3) := by decide +kernel
theorem dX1_holds_123 : decode cX1_holds 123 = .ok (.ifCond .eq 58, 3) := by decide +kernel
theorem dX1_holds_126 : decode cX1_holds 126 = .ok (.aload_n 0, 1) := by decide +kernel
theorem dX1_holds_127 : decode cX1_holds 127 = .ok (.iload_n 1, 1) := by decide +kernel
theorem dX1_holds_128 : decode cX1_holds 128 = .ok (.iconst 4, 1) := by decide +kernel
theorem dX1_holds_129 : decode cX1_holds 129 = .ok (.imul, 1) := by decide +kernel
theorem dX1_holds_130 : decode cX1_holds 130 = .ok (.iconst 1, 1) := by decide +kernel
theorem dX1_holds_131 : decode cX1_holds 131 = .ok (.iadd, 1) := by decide +kernel
theorem dX1_holds_132 : decode cX1_holds 132 = .ok (.iload_n 2, 1) := by decide +kernel
theorem dX1_holds_133 : decode cX1_holds 133 = .ok (.iconst 4, 1) := by decide +kernel
theorem dX1_holds_134 : decode cX1_holds 134 = .ok (.imul, 1) := by decide +kernel
theorem dX1_holds_135 : decode cX1_holds 135 = .ok (.iconst 1, 1) := by decide +kernel
theorem dX1_holds_136 : decode cX1_holds 136 = .ok (.iadd, 1) := by decide +kernel
theorem dX1_holds_137 : decode cX1_holds 137 = .ok (.invokevirtual 45, 3) := by decide +kernel
theorem dX1_holds_140 : decode cX1_holds 140 = .ok (.ifCond .eq 41, 3) := by decide +kernel
theorem dX1_holds_143 : decode cX1_holds 143 = .ok (.aload_n 0, 1) := by decide +kernel
theorem dX1_holds_144 : decode cX1_holds 144 = .ok (.iload_n 1, 1) := by decide +kernel
theorem dX1_holds_145 : decode cX1_holds 145 = .ok (.iconst 4, 1) := by decide +kernel
theorem dX1_holds_146 : decode cX1_holds 146 = .ok (.imul, 1) := by decide +kernel
theorem dX1_holds_147 : decode cX1_holds 147 = .ok (.iconst 2, 1) := by decide +kernel
theorem dX1_holds_148 : decode cX1_holds 148 = .ok (.iadd, 1) := by decide +kernel
theorem dX1_holds_149 : decode cX1_holds 149 = .ok (.iload_n 2, 1) := by decide +kernel
theorem dX1_holds_150 : decode cX1_holds 150 = .ok (.iconst 4, 1) := by decide +kernel
theorem dX1_holds_151 : decode cX1_holds 151 = .ok (.imul, 1) := by decide +kernel
theorem dX1_holds_152 : decode cX1_holds 152 = .ok (.iconst 2, 1) := by decide +kernel
theorem dX1_holds_153 : decode cX1_holds 153 = .ok (.iadd, 1) := by decide +kernel
theorem dX1_holds_154 : decode cX1_holds 154 = .ok (.invokevirtual 45, 3) := by decide +kernel
theorem dX1_holds_157 : decode cX1_holds 157 = .ok (.ifCond .eq 24, 3) := by decide +kernel
theorem dX1_holds_160 : decode cX1_holds 160 = .ok (.aload_n 0, 1) := by decide +kernel
theorem dX1_holds_161 : decode cX1_holds 161 = .ok (.iload_n 1, 1) := by decide +kernel
theorem dX1_holds_162 : decode cX1_holds 162 = .ok (.iconst 4, 1) := by decide +kernel
theorem dX1_holds_163 : decode cX1_holds 163 = .ok (.imul, 1) := by decide +kernel
theorem dX1_holds_164 : decode cX1_holds 164 = .ok (.iconst 3, 1) := by decide +kernel
theorem dX1_holds_165 : decode cX1_holds 165 = .ok (.iadd, 1) := by decide +kernel
theorem dX1_holds_166 : decode cX1_holds 166 = .ok (.iload_n 2, 1) := by decide +kernel
theorem dX1_holds_167 : decode cX1_holds 167 = .ok (.iconst 4, 1) := by decide +kernel
theorem dX1_holds_168 : decode cX1_holds 168 = .ok (.imul, 1) := by decide +kernel
theorem dX1_holds_169 : decode cX1_holds 169 = .ok (.iconst 3, 1) := by decide +kernel
theorem dX1_holds_170 : decode cX1_holds 170 = .ok (.iadd, 1) := by decide +kernel
theorem dX1_holds_171 : decode cX1_holds 171 = .ok (.invokevirtual 45, 3) := by decide +kernel
theorem dX1_holds_174 : decode cX1_holds 174 = .ok (.ifCond .eq 7, 3) := by decide +kernel
theorem dX1_holds_177 : decode cX1_holds 177 = .ok (.iconst 1, 1) := by decide +kernel
theorem dX1_holds_178 : decode cX1_holds 178 = .ok (.goto 4, 3) := by decide +kernel
theorem dX1_holds_181 : decode cX1_holds 181 = .ok (.iconst 0, 1) := by decide +kernel
theorem dX1_holds_182 : decode cX1_holds 182 = .ok (.ireturn, 1) := by decide +kernel
theorem dX1_holds_183 : decode cX1_holds 183 = .ok (.aload_n 0, 1) := by decide +kernel
theorem dX1_holds_184 : decode cX1_holds 184 = .ok (.getfield 7, 3) := by decide +kernel
theorem dX1_holds_187 : decode cX1_holds 187 = .ok (.iload_n 1, 1) := by decide +kernel
theorem dX1_holds_188 : decode cX1_holds 188 = .ok (.iaload, 1) := by decide +kernel
theorem dX1_holds_189 : decode cX1_holds 189 = .ok (.ifCond .eq 13, 3) := by decide +kernel
theorem dX1_holds_192 : decode cX1_holds 192 = .ok (.aload_n 0, 1) := by decide +kernel
theorem dX1_holds_193 : decode cX1_holds 193 = .ok (.getfield 7, 3) := by decide +kernel
theorem dX1_holds_196 : decode cX1_holds 196 = .ok (.iload_n 1, 1) := by decide +kernel
theorem dX1_holds_197 : decode cX1_holds 197 = .ok (.iaload, 1) := by decide +kernel
theorem dX1_holds_198 : decode cX1_holds 198 = .ok (.iconst 1, 1) := by decide +kernel
theorem dX1_holds_199 : decode cX1_holds 199 = .ok (.if_icmp .ne 7, 3) := by decide +kernel
theorem dX1_holds_202 : decode cX1_holds 202 = .ok (.iconst 1, 1) := by decide +kernel
theorem dX1_holds_203 : decode cX1_holds 203 = .ok (.goto 4, 3) := by decide +kernel
theorem dX1_holds_206 : decode cX1_holds 206 = .ok (.iconst 0, 1) := by decide +kernel
theorem dX1_holds_207 : decode cX1_holds 207 = .ok (.ireturn, 1) := by decide +kernel
abbrev cX1_fieldOk : ByteArray := prog_3_method_9_code
def yX1_fieldOk : MethodName := ⟨RX1, "fieldOk", "(II)Z"⟩
theorem dX1_fieldOk_0 : decode cX1_fieldOk 0 = .ok (.aload_n 0, 1) := by decide +kernel
theorem dX1_fieldOk_1 : decode cX1_fieldOk 1 = .ok (.getfield 19, 3) := by decide +kernel
theorem dX1_fieldOk_4 : decode cX1_fieldOk 4 = .ok (.iload_n 2, 1) := by decide +kernel
theorem dX1_fieldOk_5 : decode cX1_fieldOk 5 = .ok (.iaload, 1) := by decide +kernel
theorem dX1_fieldOk_6 : decode cX1_fieldOk 6 = .ok (.ifCond .ge 5, 3) := by decide +kernel
theorem dX1_fieldOk_9 : decode cX1_fieldOk 9 = .ok (.iconst 1, 1) := by decide +kernel
theorem dX1_fieldOk_10 : decode cX1_fieldOk 10 = .ok (.ireturn, 1) := by decide +kernel
theorem dX1_fieldOk_11 : decode cX1_fieldOk 11 = .ok (.aload_n 0, 1) := by decide +kernel
theorem dX1_fieldOk_12 : decode cX1_fieldOk 12 = .ok (.getfield 19, 3) := by decide +kernel
theorem dX1_fieldOk_15 : decode cX1_fieldOk 15 = .ok (.iload_n 1, 1) := by decide +kernel
theorem dX1_fieldOk_16 : decode cX1_fieldOk 16 = .ok (.iaload, 1) := by decide +kernel
theorem dX1_fieldOk_17 : decode cX1_fieldOk 17 = .ok (.ifCond .lt 21, 3) := by decide +kernel
theorem dX1_fieldOk_20 : decode cX1_fieldOk 20 = .ok (.aload_n 0, 1) := by decide +kernel
theorem dX1_fieldOk_21 : decode cX1_fieldOk 21 = .ok (.getfield 22, 3) := by decide +kernel
theorem dX1_fieldOk_24 : decode cX1_fieldOk 24 = .ok (.iload_n 1, 1) := by decide +kernel
theorem dX1_fieldOk_25 : decode cX1_fieldOk 25 = .ok (.baload, 1) := by decide +kernel
theorem dX1_fieldOk_26 : decode cX1_fieldOk 26 = .ok (.ifCond .eq 14, 3) := by decide +kernel
theorem dX1_fieldOk_29 : decode cX1_fieldOk 29 = .ok (.aload_n 0, 1) := by decide +kernel
theorem dX1_fieldOk_30 : decode cX1_fieldOk 30 = .ok (.getfield 22, 3) := by decide +kernel
theorem dX1_fieldOk_33 : decode cX1_fieldOk 33 = .ok (.iload_n 2, 1) := by decide +kernel
theorem dX1_fieldOk_34 : decode cX1_fieldOk 34 = .ok (.baload, 1) := by decide +kernel
theorem dX1_fieldOk_35 : decode cX1_fieldOk 35 = .ok (.ifCond .ne 5, 3) := by decide +kernel
theorem dX1_fieldOk_38 : decode cX1_fieldOk 38 = .ok (.iconst 0, 1) := by decide +kernel
theorem dX1_fieldOk_39 : decode cX1_fieldOk 39 = .ok (.ireturn, 1) := by decide +kernel
theorem dX1_fieldOk_40 : decode cX1_fieldOk 40 = .ok (.aload_n 0, 1) := by decide +kernel
theorem dX1_fieldOk_41 : decode cX1_fieldOk 41 = .ok (.getfield 26, 3) := by decide +kernel
theorem dX1_fieldOk_44 : decode cX1_fieldOk 44 = .ok (.aload_n 0, 1) := by decide +kernel
theorem dX1_fieldOk_45 : decode cX1_fieldOk 45 = .ok (.getfield 19, 3) := by decide +kernel
theorem dX1_fieldOk_48 : decode cX1_fieldOk 48 = .ok (.iload_n 1, 1) := by decide +kernel
theorem dX1_fieldOk_49 : decode cX1_fieldOk 49 = .ok (.iaload, 1) := by decide +kernel
theorem dX1_fieldOk_50 : decode cX1_fieldOk 50 = .ok (.bipush 16, 2) := by decide +kernel
theorem dX1_fieldOk_52 : decode cX1_fieldOk 52 = .ok (.imul, 1) := by decide +kernel
theorem dX1_fieldOk_53 : decode cX1_fieldOk 53 = .ok (.aload_n 0, 1) := by decide +kernel
theorem dX1_fieldOk_54 : decode cX1_fieldOk 54 = .ok (.getfield 19, 3) := by decide +kernel
theorem dX1_fieldOk_57 : decode cX1_fieldOk 57 = .ok (.iload_n 2, 1) := by decide +kernel
theorem dX1_fieldOk_58 : decode cX1_fieldOk 58 = .ok (.iaload, 1) := by decide +kernel
theorem dX1_fieldOk_59 : decode cX1_fieldOk 59 = .ok (.iadd, 1) := by decide +kernel
theorem dX1_fieldOk_60 : decode cX1_fieldOk 60 = .ok (.baload, 1) := by decide +kernel
theorem dX1_fieldOk_61 : decode cX1_fieldOk 61 = .ok (.ireturn, 1) := by decide +kernel
abbrev cX1_equivalent : ByteArray := prog_3_method_13_code
def yX1_equivalent : MethodName := ⟨RX1, "equivalent", "(II)Z"⟩
theorem dX1_equivalent_0 : decode cX1_equivalent 0 = .ok (.aload_n 0, 1) := by decide +kernel
theorem dX1_equivalent_1 : decode cX1_equivalent 1 = .ok (.iload_n 1, 1) := by decide +kernel
theorem dX1_equivalent_2 : decode cX1_equivalent 2 = .ok (.iload_n 2, 1) := by decide +kernel
theorem dX1_equivalent_3 : decode cX1_equivalent 3 = .ok (.invokevirtual 55, 3) := by decide +kernel
theorem dX1_equivalent_6 : decode cX1_equivalent 6 = .ok (.ifCond .eq 16, 3) := by decide +kernel
theorem dX1_equivalent_9 : decode cX1_equivalent 9 = .ok (.aload_n 0, 1) := by decide +kernel
theorem dX1_equivalent_10 : decode cX1_equivalent 10 = .ok (.iload_n 2, 1) := by decide +kernel
theorem dX1_equivalent_11 : decode cX1_equivalent 11 = .ok (.iload_n 1, 1) := by decide +kernel
theorem dX1_equivalent_12 : decode cX1_equivalent 12 = .ok (.invokevirtual 55, 3) := by decide +kernel
theorem dX1_equivalent_15 : decode cX1_equivalent 15 = .ok (.ifCond .eq 7, 3) := by decide +kernel
theorem dX1_equivalent_18 : decode cX1_equivalent 18 = .ok (.iconst 1, 1) := by decide +kernel
theorem dX1_equivalent_19 : decode cX1_equivalent 19 = .ok (.goto 4, 3) := by decide +kernel
theorem dX1_equivalent_22 : decode cX1_equivalent 22 = .ok (.iconst 0, 1) := by decide +kernel
theorem dX1_equivalent_23 : decode cX1_equivalent 23 = .ok (.ireturn, 1) := by decide +kernel
abbrev cX1_subtypes : ByteArray := prog_3_method_14_code
def yX1_subtypes : MethodName := ⟨RX1, "subtypes", "(I)I"⟩
theorem dX1_subtypes_0 : decode cX1_subtypes 0 = .ok (.aload_n 0, 1) := by decide +kernel
theorem dX1_subtypes_1 : decode cX1_subtypes 1 = .ok (.iload_n 1, 1) := by decide +kernel
theorem dX1_subtypes_2 : decode cX1_subtypes 2 = .ok (.invokevirtual 29, 3) := by decide +kernel
theorem dX1_subtypes_5 : decode cX1_subtypes 5 = .ok (.ifCond .eq 5, 3) := by decide +kernel
theorem dX1_subtypes_8 : decode cX1_subtypes 8 = .ok (.iconst (-1), 1) := by decide +kernel
theorem dX1_subtypes_9 : decode cX1_subtypes 9 = .ok (.ireturn, 1) := by decide +kernel
theorem dX1_subtypes_10 : decode cX1_subtypes 10 = .ok (.iconst 0, 1) := by decide +kernel
theorem dX1_subtypes_11 : decode cX1_subtypes 11 = .ok (.istore_n 2, 1) := by decide +kernel
theorem dX1_subtypes_12 : decode cX1_subtypes 12 = .ok (.iconst 0, 1) := by decide +kernel
theorem dX1_subtypes_13 : decode cX1_subtypes 13 = .ok (.istore_n 3, 1) := by decide +kernel
theorem dX1_subtypes_14 : decode cX1_subtypes 14 = .ok (.iload_n 3, 1) := by decide +kernel
theorem dX1_subtypes_15 : decode cX1_subtypes 15 = .ok (.bipush 16, 2) := by decide +kernel
theorem dX1_subtypes_17 : decode cX1_subtypes 17 = .ok (.if_icmp .ge 24, 3) := by decide +kernel
theorem dX1_subtypes_20 : decode cX1_subtypes 20 = .ok (.aload_n 0, 1) := by decide +kernel
theorem dX1_subtypes_21 : decode cX1_subtypes 21 = .ok (.iload_n 3, 1) := by decide +kernel
theorem dX1_subtypes_22 : decode cX1_subtypes 22 = .ok (.iload_n 1, 1) := by decide +kernel
theorem dX1_subtypes_23 : decode cX1_subtypes 23 = .ok (.invokevirtual 55, 3) := by decide +kernel
theorem dX1_subtypes_26 : decode cX1_subtypes 26 = .ok (.ifCond .eq 9, 3) := by decide +kernel
theorem dX1_subtypes_29 : decode cX1_subtypes 29 = .ok (.iload_n 2, 1) := by decide +kernel
theorem dX1_subtypes_30 : decode cX1_subtypes 30 = .ok (.iconst 1, 1) := by decide +kernel
theorem dX1_subtypes_31 : decode cX1_subtypes 31 = .ok (.iload_n 3, 1) := by decide +kernel
theorem dX1_subtypes_32 : decode cX1_subtypes 32 = .ok (.ishl, 1) := by decide +kernel
theorem dX1_subtypes_33 : decode cX1_subtypes 33 = .ok (.ior, 1) := by decide +kernel
theorem dX1_subtypes_34 : decode cX1_subtypes 34 = .ok (.istore_n 2, 1) := by decide +kernel
theorem dX1_subtypes_35 : decode cX1_subtypes 35 = .ok (.iinc 3 1, 3) := by decide +kernel
theorem dX1_subtypes_38 : decode cX1_subtypes 38 = .ok (.goto (-24), 3) := by decide +kernel
theorem dX1_subtypes_41 : decode cX1_subtypes 41 = .ok (.iload_n 2, 1) := by decide +kernel
theorem dX1_subtypes_42 : decode cX1_subtypes 42 = .ok (.ireturn, 1) := by decide +kernel
abbrev cX1_kinds : ByteArray := prog_3_method_15_code
def yX1_kinds : MethodName := ⟨RX1, "kinds", "()I"⟩
theorem dX1_kinds_0 : decode cX1_kinds 0 = .ok (.iconst 0, 1) := by decide +kernel
theorem dX1_kinds_1 : decode cX1_kinds 1 = .ok (.istore_n 1, 1) := by decide +kernel
theorem dX1_kinds_2 : decode cX1_kinds 2 = .ok (.iconst 0, 1) := by decide +kernel
theorem dX1_kinds_3 : decode cX1_kinds 3 = .ok (.istore_n 2, 1) := by decide +kernel
theorem dX1_kinds_4 : decode cX1_kinds 4 = .ok (.iload_n 2, 1) := by decide +kernel
theorem dX1_kinds_5 : decode cX1_kinds 5 = .ok (.bipush 16, 2) := by decide +kernel
theorem dX1_kinds_7 : decode cX1_kinds 7 = .ok (.if_icmp .ge 45, 3) := by decide +kernel
theorem dX1_kinds_10 : decode cX1_kinds 10 = .ok (.iconst 1, 1) := by decide +kernel
theorem dX1_kinds_11 : decode cX1_kinds 11 = .ok (.istore_n 3, 1) := by decide +kernel
theorem dX1_kinds_12 : decode cX1_kinds 12 = .ok (.iconst 0, 1) := by decide +kernel
theorem dX1_kinds_13 : decode cX1_kinds 13 = .ok (.istore 4, 2) := by decide +kernel
theorem dX1_kinds_15 : decode cX1_kinds 15 = .ok (.iload 4, 2) := by decide +kernel
theorem dX1_kinds_17 : decode cX1_kinds 17 = .ok (.iload_n 2, 1) := by decide +kernel
theorem dX1_kinds_18 : decode cX1_kinds 18 = .ok (.if_icmp .ge 21, 3) := by decide +kernel
theorem dX1_kinds_21 : decode cX1_kinds 21 = .ok (.aload_n 0, 1) := by decide +kernel
theorem dX1_kinds_22 : decode cX1_kinds 22 = .ok (.iload 4, 2) := by decide +kernel
theorem dX1_kinds_24 : decode cX1_kinds 24 = .ok (.iload_n 2, 1) := by decide +kernel
theorem dX1_kinds_25 : decode cX1_kinds 25 = .ok (.invokevirtual 58, 3) := by decide +kernel
theorem dX1_kinds_28 : decode cX1_kinds 28 = .ok (.ifCond .eq 5, 3) := by decide +kernel
theorem dX1_kinds_31 : decode cX1_kinds 31 = .ok (.iconst 0, 1) := by decide +kernel
theorem dX1_kinds_32 : decode cX1_kinds 32 = .ok (.istore_n 3, 1) := by decide +kernel
theorem dX1_kinds_33 : decode cX1_kinds 33 = .ok (.iinc 4 1, 3) := by decide +kernel
theorem dX1_kinds_36 : decode cX1_kinds 36 = .ok (.goto (-21), 3) := by decide +kernel
theorem dX1_kinds_39 : decode cX1_kinds 39 = .ok (.iload_n 3, 1) := by decide +kernel
theorem dX1_kinds_40 : decode cX1_kinds 40 = .ok (.ifCond .eq 6, 3) := by decide +kernel
theorem dX1_kinds_43 : decode cX1_kinds 43 = .ok (.iinc 1 1, 3) := by decide +kernel
theorem dX1_kinds_46 : decode cX1_kinds 46 = .ok (.iinc 2 1, 3) := by decide +kernel
theorem dX1_kinds_49 : decode cX1_kinds 49 = .ok (.goto (-45), 3) := by decide +kernel
theorem dX1_kinds_52 : decode cX1_kinds 52 = .ok (.iload_n 1, 1) := by decide +kernel
theorem dX1_kinds_53 : decode cX1_kinds 53 = .ok (.ireturn, 1) := by decide +kernel
abbrev cX1_unrelated : ByteArray := prog_3_method_16_code
def yX1_unrelated : MethodName := ⟨RX1, "unrelated", "()I"⟩
theorem dX1_unrelated_0 : decode cX1_unrelated 0 = .ok (.iconst 0, 1) := by decide +kernel
theorem dX1_unrelated_1 : decode cX1_unrelated 1 = .ok (.istore_n 1, 1) := by decide +kernel
theorem dX1_unrelated_2 : decode cX1_unrelated 2 = .ok (.iconst 0, 1) := by decide +kernel
theorem dX1_unrelated_3 : decode cX1_unrelated 3 = .ok (.istore_n 2, 1) := by decide +kernel
theorem dX1_unrelated_4 : decode cX1_unrelated 4 = .ok (.iload_n 2, 1) := by decide +kernel
theorem dX1_unrelated_5 : decode cX1_unrelated 5 = .ok (.bipush 16, 2) := by decide +kernel
theorem dX1_unrelated_7 : decode cX1_unrelated 7 = .ok (.if_icmp .ge 43, 3) := by decide +kernel
theorem dX1_unrelated_10 : decode cX1_unrelated 10 = .ok (.iconst 0, 1) := by decide +kernel
theorem dX1_unrelated_11 : decode cX1_unrelated 11 = .ok (.istore_n 3, 1) := by decide +kernel
theorem dX1_unrelated_12 : decode cX1_unrelated 12 = .ok (.iload_n 3, 1) := by decide +kernel
theorem dX1_unrelated_13 : decode cX1_unrelated 13 = .ok (.iload_n 2, 1) := by decide +kernel
theorem dX1_unrelated_14 : decode cX1_unrelated 14 = .ok (.if_icmp .ge 30, 3) := by decide +kernel
theorem dX1_unrelated_17 : decode cX1_unrelated 17 = .ok (.aload_n 0, 1) := by decide +kernel
theorem dX1_unrelated_18 : decode cX1_unrelated 18 = .ok (.iload_n 3, 1) := by decide +kernel
theorem dX1_unrelated_19 : decode cX1_unrelated 19 = .ok (.iload_n 2, 1) := by decide +kernel
theorem dX1_unrelated_20 : decode cX1_unrelated 20 = .ok (.invokevirtual 55, 3) := by decide +kernel
theorem dX1_unrelated_23 : decode cX1_unrelated 23 = .ok (.ifCond .ne 15, 3) := by decide +kernel
theorem dX1_unrelated_26 : decode cX1_unrelated 26 = .ok (.aload_n 0, 1) := by decide +kernel
theorem dX1_unrelated_27 : decode cX1_unrelated 27 = .ok (.iload_n 2, 1) := by decide +kernel
theorem dX1_unrelated_28 : decode cX1_unrelated 28 = .ok (.iload_n 3, 1) := by decide +kernel
theorem dX1_unrelated_29 : decode cX1_unrelated 29 = .ok (.invokevirtual 55, 3) := by decide +kernel
theorem dX1_unrelated_32 : decode cX1_unrelated 32 = .ok (.ifCond .ne 6, 3) := by decide +kernel
theorem dX1_unrelated_35 : decode cX1_unrelated 35 = .ok (.iinc 1 1, 3) := by decide +kernel
theorem dX1_unrelated_38 : decode cX1_unrelated 38 = .ok (.iinc 3 1, 3) := by decide +kernel
theorem dX1_unrelated_41 : decode cX1_unrelated 41 = .ok (.goto (-29), 3) := by decide +kernel
theorem dX1_unrelated_44 : decode cX1_unrelated 44 = .ok (.iinc 2 1, 3) := by decide +kernel
theorem dX1_unrelated_47 : decode cX1_unrelated 47 = .ok (.goto (-43), 3) := by decide +kernel
theorem dX1_unrelated_50 : decode cX1_unrelated 50 = .ok (.iload_n 1, 1) := by decide +kernel
theorem dX1_unrelated_51 : decode cX1_unrelated 51 = .ok (.ireturn, 1) := by decide +kernel
abbrev cX1_shapeOf : ByteArray := prog_3_method_17_code
def yX1_shapeOf : MethodName := ⟨RX1, "shapeOf", "(I)I"⟩
theorem dX1_shapeOf_0 : decode cX1_shapeOf 0 = .ok (.aload_n 0, 1) := by decide +kernel
theorem dX1_shapeOf_1 : decode cX1_shapeOf 1 = .ok (.iload_n 1, 1) := by decide +kernel
theorem dX1_shapeOf_2 : decode cX1_shapeOf 2 = .ok (.invokevirtual 29, 3) := by decide +kernel
theorem dX1_shapeOf_5 : decode cX1_shapeOf 5 = .ok (.ifCond .eq 7, 3) := by decide +kernel
theorem dX1_shapeOf_8 : decode cX1_shapeOf 8 = .ok (.iconst (-1), 1) := by decide +kernel
theorem dX1_shapeOf_9 : decode cX1_shapeOf 9 = .ok (.goto 9, 3) := by decide +kernel
theorem dX1_shapeOf_12 : decode cX1_shapeOf 12 = .ok (.aload_n 0, 1) := by decide +kernel
theorem dX1_shapeOf_13 : decode cX1_shapeOf 13 = .ok (.getfield 7, 3) := by decide +kernel
theorem dX1_shapeOf_16 : decode cX1_shapeOf 16 = .ok (.iload_n 1, 1) := by decide +kernel
theorem dX1_shapeOf_17 : decode cX1_shapeOf 17 = .ok (.iaload, 1) := by decide +kernel
theorem dX1_shapeOf_18 : decode cX1_shapeOf 18 = .ok (.ireturn, 1) := by decide +kernel
end
section
set_option maxRecDepth 100000
theorem q17 : (Jvm.Cond.initialized "StructuralTypesModel") ∈ lw_all := lw_g (lw_at lw_m0 2 rfl) rfl
theorem q143 : (Jvm.Cond.instantiable "StructuralTypesModel" (7 : Nat)) ∈ lw_all := lw_g (lw_at lw_m0 128 rfl) rfl
theorem q145 : (Jvm.Cond.instanceMethod ({ cls := "StructuralTypesModel", name := "<init>", desc := "()V" } : Jvm.MethodName)) ∈ lw_all := lw_g (lw_at lw_m0 130 rfl) rfl
theorem q146 : (Jvm.Cond.code ({ cls := "StructuralTypesModel", name := "<init>", desc := "()V" } : Jvm.MethodName) prog_3_method_1_code (1 : Nat) (Option.none : Option Jvm.ClassFile.FieldType)) ∈ lw_all := lw_g (lw_at lw_m0 131 rfl) rfl
theorem q147 : (Jvm.Cond.methodLink "StructuralTypesModel" (1 : Nat) ({ cls := "java/lang/Object", name := "<init>", desc := "()V" } : Jvm.MethodName)) ∈ lw_all := lw_g (lw_at lw_m0 132 rfl) rfl
theorem q148 : (Jvm.Cond.fieldLink "StructuralTypesModel" (7 : Nat) "StructuralTypesModel" "shapes" "[I") ∈ lw_all := lw_g (lw_at lw_m0 133 rfl) rfl
theorem q149 : (Jvm.Cond.fieldLink "StructuralTypesModel" (13 : Nat) "StructuralTypesModel" "arguments" "[I") ∈ lw_all := lw_g (lw_at lw_m0 134 rfl) rfl
theorem q150 : (Jvm.Cond.fieldLink "StructuralTypesModel" (16 : Nat) "StructuralTypesModel" "results" "[I") ∈ lw_all := lw_g (lw_at lw_m0 135 rfl) rfl
theorem q151 : (Jvm.Cond.fieldLink "StructuralTypesModel" (19 : Nat) "StructuralTypesModel" "fields" "[I") ∈ lw_all := lw_g (lw_at lw_m0 136 rfl) rfl
theorem q152 : (Jvm.Cond.fieldLink "StructuralTypesModel" (22 : Nat) "StructuralTypesModel" "optional" "[Z") ∈ lw_all := lw_g (lw_at lw_m0 137 rfl) rfl
theorem q153 : (Jvm.Cond.fieldLink "StructuralTypesModel" (33 : Nat) "StructuralTypesModel" "known" "Z") ∈ lw_all := lw_g (lw_at lw_m0 138 rfl) rfl
theorem q154 : (Jvm.Cond.fieldLink "StructuralTypesModel" (26 : Nat) "StructuralTypesModel" "below" "[Z") ∈ lw_all := lw_g (lw_at lw_m0 139 rfl) rfl
theorem q155 : (Jvm.Cond.laysFinal "StructuralTypesModel" "StructuralTypesModel" "shapes" "[I") ∈ lw_all := lw_g (lw_at lw_m0 140 rfl) rfl
theorem q156 : (Jvm.Cond.soleField "StructuralTypesModel" "shapes") ∈ lw_all := lw_g (lw_at lw_m0 141 rfl) rfl
theorem q157 : (Jvm.Cond.laysFinal "StructuralTypesModel" "StructuralTypesModel" "arguments" "[I") ∈ lw_all := lw_g (lw_at lw_m0 142 rfl) rfl
theorem q158 : (Jvm.Cond.soleField "StructuralTypesModel" "arguments") ∈ lw_all := lw_g (lw_at lw_m0 143 rfl) rfl
theorem q159 : (Jvm.Cond.laysFinal "StructuralTypesModel" "StructuralTypesModel" "results" "[I") ∈ lw_all := lw_g (lw_at lw_m0 144 rfl) rfl
theorem q160 : (Jvm.Cond.soleField "StructuralTypesModel" "results") ∈ lw_all := lw_g (lw_at lw_m0 145 rfl) rfl
theorem q161 : (Jvm.Cond.laysFinal "StructuralTypesModel" "StructuralTypesModel" "fields" "[I") ∈ lw_all := lw_g (lw_at lw_m0 146 rfl) rfl
theorem q162 : (Jvm.Cond.soleField "StructuralTypesModel" "fields") ∈ lw_all := lw_g (lw_at lw_m0 147 rfl) rfl
theorem q163 : (Jvm.Cond.laysFinal "StructuralTypesModel" "StructuralTypesModel" "optional" "[Z") ∈ lw_all := lw_g (lw_at lw_m0 148 rfl) rfl
theorem q164 : (Jvm.Cond.soleField "StructuralTypesModel" "optional") ∈ lw_all := lw_g (lw_at lw_m0 149 rfl) rfl
theorem q165 : (Jvm.Cond.lays "StructuralTypesModel" "StructuralTypesModel" "known" "Z") ∈ lw_all := lw_g (lw_at lw_m0 150 rfl) rfl
theorem q166 : (Jvm.Cond.soleField "StructuralTypesModel" "known") ∈ lw_all := lw_g (lw_at lw_m0 151 rfl) rfl
theorem q167 : (Jvm.Cond.laysFinal "StructuralTypesModel" "StructuralTypesModel" "below" "[Z") ∈ lw_all := lw_g (lw_at lw_m0 152 rfl) rfl
theorem q168 : (Jvm.Cond.soleField "StructuralTypesModel" "below") ∈ lw_all := lw_g (lw_at lw_m0 153 rfl) rfl
theorem q169 : (Jvm.Cond.superclass "StructuralTypesModel" "java/lang/Object") ∈ lw_all := lw_g (lw_at lw_m0 154 rfl) rfl
theorem q171 : (Jvm.Cond.instanceMethod ({ cls := "StructuralTypesModel", name := "shape", desc := "(II)I" } : Jvm.MethodName)) ∈ lw_all := lw_g (lw_at lw_m0 156 rfl) rfl
theorem q172 : (Jvm.Cond.selects "StructuralTypesModel" ({ cls := "StructuralTypesModel", name := "shape", desc := "(II)I" } : Jvm.MethodName) ({ cls := "StructuralTypesModel", name := "shape", desc := "(II)I" } : Jvm.MethodName)) ∈ lw_all := lw_g (lw_at lw_m0 157 rfl) rfl
theorem q173 : (Jvm.Cond.code ({ cls := "StructuralTypesModel", name := "shape", desc := "(II)I" } : Jvm.MethodName) prog_3_method_3_code (5 : Nat) (Option.some Jvm.ClassFile.FieldType.int)) ∈ lw_all := lw_g (lw_at lw_m0 158 rfl) rfl
theorem q174 : (Jvm.Cond.methodLink "StructuralTypesModel" (29 : Nat) ({ cls := "StructuralTypesModel", name := "bad", desc := "(I)Z" } : Jvm.MethodName)) ∈ lw_all := lw_g (lw_at lw_m0 159 rfl) rfl
theorem q175 : (Jvm.Cond.privateMethod ({ cls := "StructuralTypesModel", name := "bad", desc := "(I)Z" } : Jvm.MethodName)) ∈ lw_tbl := lw_at lw_m0 160 rfl
theorem q176 : (Jvm.Cond.instanceMethod ({ cls := "StructuralTypesModel", name := "bad", desc := "(I)Z" } : Jvm.MethodName)) ∈ lw_all := lw_g (lw_at lw_m0 161 rfl) rfl
theorem q177 : (Jvm.Cond.code ({ cls := "StructuralTypesModel", name := "bad", desc := "(I)Z" } : Jvm.MethodName) prog_3_method_2_code (2 : Nat) (Option.some Jvm.ClassFile.FieldType.boolean)) ∈ lw_all := lw_g (lw_at lw_m0 162 rfl) rfl
theorem q179 : (Jvm.Cond.instanceMethod ({ cls := "StructuralTypesModel", name := "fun", desc := "(III)I" } : Jvm.MethodName)) ∈ lw_all := lw_g (lw_at lw_m0 164 rfl) rfl
theorem q180 : (Jvm.Cond.selects "StructuralTypesModel" ({ cls := "StructuralTypesModel", name := "fun", desc := "(III)I" } : Jvm.MethodName) ({ cls := "StructuralTypesModel", name := "fun", desc := "(III)I" } : Jvm.MethodName)) ∈ lw_all := lw_g (lw_at lw_m0 165 rfl) rfl
theorem q181 : (Jvm.Cond.code ({ cls := "StructuralTypesModel", name := "fun", desc := "(III)I" } : Jvm.MethodName) prog_3_method_4_code (5 : Nat) (Option.some Jvm.ClassFile.FieldType.int)) ∈ lw_all := lw_g (lw_at lw_m0 166 rfl) rfl
theorem q183 : (Jvm.Cond.instanceMethod ({ cls := "StructuralTypesModel", name := "field", desc := "(IIII)I" } : Jvm.MethodName)) ∈ lw_all := lw_g (lw_at lw_m0 168 rfl) rfl
theorem q184 : (Jvm.Cond.selects "StructuralTypesModel" ({ cls := "StructuralTypesModel", name := "field", desc := "(IIII)I" } : Jvm.MethodName) ({ cls := "StructuralTypesModel", name := "field", desc := "(IIII)I" } : Jvm.MethodName)) ∈ lw_all := lw_g (lw_at lw_m0 169 rfl) rfl
theorem q185 : (Jvm.Cond.code ({ cls := "StructuralTypesModel", name := "field", desc := "(IIII)I" } : Jvm.MethodName) prog_3_method_6_code (6 : Nat) (Option.some Jvm.ClassFile.FieldType.int)) ∈ lw_all := lw_g (lw_at lw_m0 170 rfl) rfl
theorem q186 : (Jvm.Cond.methodLink "StructuralTypesModel" (37 : Nat) ({ cls := "StructuralTypesModel", name := "refusal", desc := "(II)I" } : Jvm.MethodName)) ∈ lw_all := lw_g (lw_at lw_m0 171 rfl) rfl
theorem q187 : (Jvm.Cond.privateMethod ({ cls := "StructuralTypesModel", name := "refusal", desc := "(II)I" } : Jvm.MethodName)) ∈ lw_tbl := lw_at lw_m0 172 rfl
theorem q188 : (Jvm.Cond.instanceMethod ({ cls := "StructuralTypesModel", name := "refusal", desc := "(II)I" } : Jvm.MethodName)) ∈ lw_all := lw_g (lw_at lw_m0 173 rfl) rfl
theorem q189 : (Jvm.Cond.code ({ cls := "StructuralTypesModel", name := "refusal", desc := "(II)I" } : Jvm.MethodName) prog_3_method_5_code (3 : Nat) (Option.some Jvm.ClassFile.FieldType.int)) ∈ lw_all := lw_g (lw_at lw_m0 174 rfl) rfl
theorem q190 : (Jvm.Cond.methodLink "StructuralTypesModel" (41 : Nat) ({ cls := "StructuralTypesModel", name := "setField", desc := "(IIZ)I" } : Jvm.MethodName)) ∈ lw_all := lw_g (lw_at lw_m0 175 rfl) rfl
theorem q191 : (Jvm.Cond.privateMethod ({ cls := "StructuralTypesModel", name := "setField", desc := "(IIZ)I" } : Jvm.MethodName)) ∈ lw_tbl := lw_at lw_m0 176 rfl
theorem q192 : (Jvm.Cond.instanceMethod ({ cls := "StructuralTypesModel", name := "setField", desc := "(IIZ)I" } : Jvm.MethodName)) ∈ lw_all := lw_g (lw_at lw_m0 177 rfl) rfl
theorem q193 : (Jvm.Cond.code ({ cls := "StructuralTypesModel", name := "setField", desc := "(IIZ)I" } : Jvm.MethodName) prog_3_method_7_code (5 : Nat) (Option.some Jvm.ClassFile.FieldType.int)) ∈ lw_all := lw_g (lw_at lw_m0 178 rfl) rfl
theorem q195 : (Jvm.Cond.instanceMethod ({ cls := "StructuralTypesModel", name := "dropField", desc := "(II)I" } : Jvm.MethodName)) ∈ lw_all := lw_g (lw_at lw_m0 180 rfl) rfl
theorem q196 : (Jvm.Cond.selects "StructuralTypesModel" ({ cls := "StructuralTypesModel", name := "dropField", desc := "(II)I" } : Jvm.MethodName) ({ cls := "StructuralTypesModel", name := "dropField", desc := "(II)I" } : Jvm.MethodName)) ∈ lw_all := lw_g (lw_at lw_m0 181 rfl) rfl
theorem q197 : (Jvm.Cond.code ({ cls := "StructuralTypesModel", name := "dropField", desc := "(II)I" } : Jvm.MethodName) prog_3_method_8_code (4 : Nat) (Option.some Jvm.ClassFile.FieldType.int)) ∈ lw_all := lw_g (lw_at lw_m0 182 rfl) rfl
theorem q199 : (Jvm.Cond.instanceMethod ({ cls := "StructuralTypesModel", name := "subtype", desc := "(II)Z" } : Jvm.MethodName)) ∈ lw_all := lw_g (lw_at lw_m0 184 rfl) rfl
theorem q200 : (Jvm.Cond.selects "StructuralTypesModel" ({ cls := "StructuralTypesModel", name := "subtype", desc := "(II)Z" } : Jvm.MethodName) ({ cls := "StructuralTypesModel", name := "subtype", desc := "(II)Z" } : Jvm.MethodName)) ∈ lw_all := lw_g (lw_at lw_m0 185 rfl) rfl
theorem q201 : (Jvm.Cond.code ({ cls := "StructuralTypesModel", name := "subtype", desc := "(II)Z" } : Jvm.MethodName) prog_3_method_12_code (3 : Nat) (Option.some Jvm.ClassFile.FieldType.boolean)) ∈ lw_all := lw_g (lw_at lw_m0 186 rfl) rfl
theorem q202 : (Jvm.Cond.methodLink "StructuralTypesModel" (52 : Nat) ({ cls := "StructuralTypesModel", name := "strike", desc := "()V" } : Jvm.MethodName)) ∈ lw_all := lw_g (lw_at lw_m0 187 rfl) rfl
theorem q203 : (Jvm.Cond.privateMethod ({ cls := "StructuralTypesModel", name := "strike", desc := "()V" } : Jvm.MethodName)) ∈ lw_tbl := lw_at lw_m0 188 rfl
theorem q204 : (Jvm.Cond.instanceMethod ({ cls := "StructuralTypesModel", name := "strike", desc := "()V" } : Jvm.MethodName)) ∈ lw_all := lw_g (lw_at lw_m0 189 rfl) rfl
theorem q205 : (Jvm.Cond.code ({ cls := "StructuralTypesModel", name := "strike", desc := "()V" } : Jvm.MethodName) prog_3_method_11_code (4 : Nat) (Option.none : Option Jvm.ClassFile.FieldType)) ∈ lw_all := lw_g (lw_at lw_m0 190 rfl) rfl
theorem q206 : (Jvm.Cond.methodLink "StructuralTypesModel" (49 : Nat) ({ cls := "StructuralTypesModel", name := "holds", desc := "(II)Z" } : Jvm.MethodName)) ∈ lw_all := lw_g (lw_at lw_m0 191 rfl) rfl
theorem q207 : (Jvm.Cond.privateMethod ({ cls := "StructuralTypesModel", name := "holds", desc := "(II)Z" } : Jvm.MethodName)) ∈ lw_tbl := lw_at lw_m0 192 rfl
theorem q208 : (Jvm.Cond.instanceMethod ({ cls := "StructuralTypesModel", name := "holds", desc := "(II)Z" } : Jvm.MethodName)) ∈ lw_all := lw_g (lw_at lw_m0 193 rfl) rfl
theorem q209 : (Jvm.Cond.code ({ cls := "StructuralTypesModel", name := "holds", desc := "(II)Z" } : Jvm.MethodName) prog_3_method_10_code (3 : Nat) (Option.some Jvm.ClassFile.FieldType.boolean)) ∈ lw_all := lw_g (lw_at lw_m0 194 rfl) rfl
theorem q210 : (Jvm.Cond.methodLink "StructuralTypesModel" (45 : Nat) ({ cls := "StructuralTypesModel", name := "fieldOk", desc := "(II)Z" } : Jvm.MethodName)) ∈ lw_all := lw_g (lw_at lw_m0 195 rfl) rfl
theorem q211 : (Jvm.Cond.privateMethod ({ cls := "StructuralTypesModel", name := "fieldOk", desc := "(II)Z" } : Jvm.MethodName)) ∈ lw_tbl := lw_at lw_m0 196 rfl
theorem q212 : (Jvm.Cond.instanceMethod ({ cls := "StructuralTypesModel", name := "fieldOk", desc := "(II)Z" } : Jvm.MethodName)) ∈ lw_all := lw_g (lw_at lw_m0 197 rfl) rfl
theorem q213 : (Jvm.Cond.code ({ cls := "StructuralTypesModel", name := "fieldOk", desc := "(II)Z" } : Jvm.MethodName) prog_3_method_9_code (3 : Nat) (Option.some Jvm.ClassFile.FieldType.boolean)) ∈ lw_all := lw_g (lw_at lw_m0 198 rfl) rfl
theorem q215 : (Jvm.Cond.instanceMethod ({ cls := "StructuralTypesModel", name := "equivalent", desc := "(II)Z" } : Jvm.MethodName)) ∈ lw_all := lw_g (lw_at lw_m0 200 rfl) rfl
theorem q216 : (Jvm.Cond.selects "StructuralTypesModel" ({ cls := "StructuralTypesModel", name := "equivalent", desc := "(II)Z" } : Jvm.MethodName) ({ cls := "StructuralTypesModel", name := "equivalent", desc := "(II)Z" } : Jvm.MethodName)) ∈ lw_all := lw_g (lw_at lw_m0 201 rfl) rfl
theorem q217 : (Jvm.Cond.code ({ cls := "StructuralTypesModel", name := "equivalent", desc := "(II)Z" } : Jvm.MethodName) prog_3_method_13_code (3 : Nat) (Option.some Jvm.ClassFile.FieldType.boolean)) ∈ lw_all := lw_g (lw_at lw_m0 202 rfl) rfl
theorem q218 : (Jvm.Cond.methodLink "StructuralTypesModel" (55 : Nat) ({ cls := "StructuralTypesModel", name := "subtype", desc := "(II)Z" } : Jvm.MethodName)) ∈ lw_all := lw_g (lw_at lw_m0 203 rfl) rfl
theorem q220 : (Jvm.Cond.instanceMethod ({ cls := "StructuralTypesModel", name := "subtypes", desc := "(I)I" } : Jvm.MethodName)) ∈ lw_all := lw_g (lw_at lw_m0 205 rfl) rfl
theorem q221 : (Jvm.Cond.selects "StructuralTypesModel" ({ cls := "StructuralTypesModel", name := "subtypes", desc := "(I)I" } : Jvm.MethodName) ({ cls := "StructuralTypesModel", name := "subtypes", desc := "(I)I" } : Jvm.MethodName)) ∈ lw_all := lw_g (lw_at lw_m0 206 rfl) rfl
theorem q222 : (Jvm.Cond.code ({ cls := "StructuralTypesModel", name := "subtypes", desc := "(I)I" } : Jvm.MethodName) prog_3_method_14_code (4 : Nat) (Option.some Jvm.ClassFile.FieldType.int)) ∈ lw_all := lw_g (lw_at lw_m0 207 rfl) rfl
theorem q224 : (Jvm.Cond.instanceMethod ({ cls := "StructuralTypesModel", name := "kinds", desc := "()I" } : Jvm.MethodName)) ∈ lw_all := lw_g (lw_at lw_m0 209 rfl) rfl
theorem q225 : (Jvm.Cond.selects "StructuralTypesModel" ({ cls := "StructuralTypesModel", name := "kinds", desc := "()I" } : Jvm.MethodName) ({ cls := "StructuralTypesModel", name := "kinds", desc := "()I" } : Jvm.MethodName)) ∈ lw_all := lw_g (lw_at lw_m0 210 rfl) rfl
theorem q226 : (Jvm.Cond.code ({ cls := "StructuralTypesModel", name := "kinds", desc := "()I" } : Jvm.MethodName) prog_3_method_15_code (5 : Nat) (Option.some Jvm.ClassFile.FieldType.int)) ∈ lw_all := lw_g (lw_at lw_m0 211 rfl) rfl
theorem q227 : (Jvm.Cond.methodLink "StructuralTypesModel" (58 : Nat) ({ cls := "StructuralTypesModel", name := "equivalent", desc := "(II)Z" } : Jvm.MethodName)) ∈ lw_all := lw_g (lw_at lw_m0 212 rfl) rfl
theorem q229 : (Jvm.Cond.instanceMethod ({ cls := "StructuralTypesModel", name := "unrelated", desc := "()I" } : Jvm.MethodName)) ∈ lw_all := lw_g (lw_at lw_m0 214 rfl) rfl
theorem q230 : (Jvm.Cond.selects "StructuralTypesModel" ({ cls := "StructuralTypesModel", name := "unrelated", desc := "()I" } : Jvm.MethodName) ({ cls := "StructuralTypesModel", name := "unrelated", desc := "()I" } : Jvm.MethodName)) ∈ lw_all := lw_g (lw_at lw_m0 215 rfl) rfl
theorem q231 : (Jvm.Cond.code ({ cls := "StructuralTypesModel", name := "unrelated", desc := "()I" } : Jvm.MethodName) prog_3_method_16_code (4 : Nat) (Option.some Jvm.ClassFile.FieldType.int)) ∈ lw_all := lw_g (lw_at lw_m0 216 rfl) rfl
theorem q233 : (Jvm.Cond.instanceMethod ({ cls := "StructuralTypesModel", name := "shapeOf", desc := "(I)I" } : Jvm.MethodName)) ∈ lw_all := lw_g (lw_at lw_m0 218 rfl) rfl
theorem q234 : (Jvm.Cond.selects "StructuralTypesModel" ({ cls := "StructuralTypesModel", name := "shapeOf", desc := "(I)I" } : Jvm.MethodName) ({ cls := "StructuralTypesModel", name := "shapeOf", desc := "(I)I" } : Jvm.MethodName)) ∈ lw_all := lw_g (lw_at lw_m0 219 rfl) rfl
theorem q235 : (Jvm.Cond.code ({ cls := "StructuralTypesModel", name := "shapeOf", desc := "(I)I" } : Jvm.MethodName) prog_3_method_17_code (2 : Nat) (Option.some Jvm.ClassFile.FieldType.int)) ∈ lw_all := lw_g (lw_at lw_m0 220 rfl) rfl
theorem in_X1 : ∀ w ∈ wsX10, w ∈ lw_all := lw_in wsX10 [155, 157, 159, 161, 163, 165, 167] (by decide +kernel) (by decide +kernel)
end
section
/-! java/lang/Object -/
set_option maxRecDepth 100000
def RJ0 : String := "java/lang/Object"
abbrev cJ0_init : ByteArray := object_method_1_code
def yJ0_init : MethodName := ⟨RJ0, "<init>", "()V"⟩
theorem dJ0_init_0 : decode cJ0_init 0 = .ok (.return_, 1) := by decide +kernel
theorem q24 : (Jvm.Cond.instanceMethod ({ cls := "java/lang/Object", name := "<init>", desc := "()V" } : Jvm.MethodName)) ∈ lw_all := lw_g (lw_at lw_m0 9 rfl) rfl
theorem q25 : (Jvm.Cond.code ({ cls := "java/lang/Object", name := "<init>", desc := "()V" } : Jvm.MethodName) object_method_1_code (1 : Nat) (Option.none : Option Jvm.ClassFile.FieldType)) ∈ lw_all := lw_g (lw_at lw_m0 10 rfl) rfl
theorem q15 : (Jvm.Cond.initialized "StructuralTypesLaw") ∈ lw_all := lw_g (lw_at lw_m0 0 rfl) rfl
set_option maxRecDepth 100000
theorem q18 : (Jvm.Cond.classLink "StructuralTypesLaw" (7 : Nat) "StructuralTypes") ∈ lw_all := lw_g (lw_at lw_m0 3 rfl) rfl
theorem q20 : (Jvm.Cond.methodLink "StructuralTypesLaw" (9 : Nat) ({ cls := "StructuralTypes", name := "<init>", desc := "()V" } : Jvm.MethodName)) ∈ lw_all := lw_g (lw_at lw_m0 5 rfl) rfl
theorem q63 : (Jvm.Cond.methodLink "StructuralTypesLaw" (13 : Nat) ({ cls := "StructuralTypes", name := "shape", desc := "(II)I" } : Jvm.MethodName)) ∈ lw_all := lw_g (lw_at lw_m0 48 rfl) rfl
theorem q78 : (Jvm.Cond.methodLink "StructuralTypesLaw" (18 : Nat) ({ cls := "StructuralTypes", name := "fun", desc := "(III)I" } : Jvm.MethodName)) ∈ lw_all := lw_g (lw_at lw_m0 63 rfl) rfl
theorem q82 : (Jvm.Cond.methodLink "StructuralTypesLaw" (23 : Nat) ({ cls := "StructuralTypes", name := "field", desc := "(IIII)I" } : Jvm.MethodName)) ∈ lw_all := lw_g (lw_at lw_m0 67 rfl) rfl
theorem q86 : (Jvm.Cond.methodLink "StructuralTypesLaw" (28 : Nat) ({ cls := "StructuralTypes", name := "dropField", desc := "(II)I" } : Jvm.MethodName)) ∈ lw_all := lw_g (lw_at lw_m0 71 rfl) rfl
theorem q90 : (Jvm.Cond.methodLink "StructuralTypesLaw" (32 : Nat) ({ cls := "StructuralTypes", name := "subtype", desc := "(II)Z" } : Jvm.MethodName)) ∈ lw_all := lw_g (lw_at lw_m0 75 rfl) rfl
theorem q118 : (Jvm.Cond.methodLink "StructuralTypesLaw" (37 : Nat) ({ cls := "StructuralTypes", name := "equivalent", desc := "(II)Z" } : Jvm.MethodName)) ∈ lw_all := lw_g (lw_at lw_m0 103 rfl) rfl
theorem q126 : (Jvm.Cond.methodLink "StructuralTypesLaw" (41 : Nat) ({ cls := "StructuralTypes", name := "subtypes", desc := "(I)I" } : Jvm.MethodName)) ∈ lw_all := lw_g (lw_at lw_m0 111 rfl) rfl
theorem q130 : (Jvm.Cond.methodLink "StructuralTypesLaw" (46 : Nat) ({ cls := "StructuralTypes", name := "kinds", desc := "()I" } : Jvm.MethodName)) ∈ lw_all := lw_g (lw_at lw_m0 115 rfl) rfl
theorem q134 : (Jvm.Cond.methodLink "StructuralTypesLaw" (51 : Nat) ({ cls := "StructuralTypes", name := "unrelated", desc := "()I" } : Jvm.MethodName)) ∈ lw_all := lw_g (lw_at lw_m0 119 rfl) rfl
theorem q138 : (Jvm.Cond.methodLink "StructuralTypesLaw" (55 : Nat) ({ cls := "StructuralTypes", name := "shapeOf", desc := "(I)I" } : Jvm.MethodName)) ∈ lw_all := lw_g (lw_at lw_m0 123 rfl) rfl
theorem q142 : (Jvm.Cond.classLink "StructuralTypesLaw" (10 : Nat) "StructuralTypesModel") ∈ lw_all := lw_g (lw_at lw_m0 127 rfl) rfl
theorem q144 : (Jvm.Cond.methodLink "StructuralTypesLaw" (12 : Nat) ({ cls := "StructuralTypesModel", name := "<init>", desc := "()V" } : Jvm.MethodName)) ∈ lw_all := lw_g (lw_at lw_m0 129 rfl) rfl
theorem q170 : (Jvm.Cond.methodLink "StructuralTypesLaw" (17 : Nat) ({ cls := "StructuralTypesModel", name := "shape", desc := "(II)I" } : Jvm.MethodName)) ∈ lw_all := lw_g (lw_at lw_m0 155 rfl) rfl
theorem q178 : (Jvm.Cond.methodLink "StructuralTypesLaw" (22 : Nat) ({ cls := "StructuralTypesModel", name := "fun", desc := "(III)I" } : Jvm.MethodName)) ∈ lw_all := lw_g (lw_at lw_m0 163 rfl) rfl
theorem q182 : (Jvm.Cond.methodLink "StructuralTypesLaw" (27 : Nat) ({ cls := "StructuralTypesModel", name := "field", desc := "(IIII)I" } : Jvm.MethodName)) ∈ lw_all := lw_g (lw_at lw_m0 167 rfl) rfl
theorem q194 : (Jvm.Cond.methodLink "StructuralTypesLaw" (31 : Nat) ({ cls := "StructuralTypesModel", name := "dropField", desc := "(II)I" } : Jvm.MethodName)) ∈ lw_all := lw_g (lw_at lw_m0 179 rfl) rfl
theorem q198 : (Jvm.Cond.methodLink "StructuralTypesLaw" (36 : Nat) ({ cls := "StructuralTypesModel", name := "subtype", desc := "(II)Z" } : Jvm.MethodName)) ∈ lw_all := lw_g (lw_at lw_m0 183 rfl) rfl
theorem q214 : (Jvm.Cond.methodLink "StructuralTypesLaw" (40 : Nat) ({ cls := "StructuralTypesModel", name := "equivalent", desc := "(II)Z" } : Jvm.MethodName)) ∈ lw_all := lw_g (lw_at lw_m0 199 rfl) rfl
theorem q219 : (Jvm.Cond.methodLink "StructuralTypesLaw" (45 : Nat) ({ cls := "StructuralTypesModel", name := "subtypes", desc := "(I)I" } : Jvm.MethodName)) ∈ lw_all := lw_g (lw_at lw_m0 204 rfl) rfl
theorem q223 : (Jvm.Cond.methodLink "StructuralTypesLaw" (50 : Nat) ({ cls := "StructuralTypesModel", name := "kinds", desc := "()I" } : Jvm.MethodName)) ∈ lw_all := lw_g (lw_at lw_m0 208 rfl) rfl
theorem q228 : (Jvm.Cond.methodLink "StructuralTypesLaw" (54 : Nat) ({ cls := "StructuralTypesModel", name := "unrelated", desc := "()I" } : Jvm.MethodName)) ∈ lw_all := lw_g (lw_at lw_m0 213 rfl) rfl
theorem q232 : (Jvm.Cond.methodLink "StructuralTypesLaw" (58 : Nat) ({ cls := "StructuralTypesModel", name := "shapeOf", desc := "(I)I" } : Jvm.MethodName)) ∈ lw_all := lw_g (lw_at lw_m0 217 rfl) rfl
theorem q60 : (Jvm.Cond.arrayClass Jvm.ClassFile.FieldType.int) ∈ lw_all := lw_g (lw_at lw_m0 45 rfl) rfl
set_option maxRecDepth 100000
theorem q61 : (Jvm.Cond.arrayClass Jvm.ClassFile.FieldType.boolean) ∈ lw_all := lw_g (lw_at lw_m0 46 rfl) rfl
theorem q62 : (Jvm.Cond.arrayClass Jvm.ClassFile.FieldType.byte) ∈ lw_all := lw_g (lw_at lw_m0 47 rfl) rfl
end
section
/-! rows over the kit: one bundle for the machine (st_E), one for the world (st_W), numbers as naturals -/
set_option maxRecDepth 100000
abbrev vwCl : List vw_C := [(RX0, TX0, 11), (RX1, TX1, 7)]
def st_b (b : Bool) : Int32 := match b with
  | true => 1
  | false => 0
def st_o (o : Option Nat) : Int32 := match o with
  | none => -1
  | some k => nI k
noncomputable def st_p (P : Prop) : Int32 := @ite Int32 P (Classical.propDecidable P) 1 0
theorem st_p1 {P : Prop} (h : P) : st_p P = 1 := @if_pos P (Classical.propDecidable P) h Int32 1 0
theorem st_p0 {P : Prop} (h : ¬ P) : st_p P = 0 := @if_neg P (Classical.propDecidable P) h Int32 1 0
theorem st_pz (P : Prop) : narrow .boolean (.int (st_p P)) = .int (st_p P) := by
  rcases Classical.em P with h | h
  · rw [st_p1 h]; rfl
  · rw [st_p0 h]; rfl
theorem st_bz (b : Bool) : narrow .boolean (.int (st_b b)) = .int (st_b b) := by cases b <;> rfl
theorem st_bp (b : Bool) : st_b b = st_p (b = true) := by
  cases b
  · rw [st_p0 (by decide)]; rfl
  · rw [st_p1 rfl]; rfl
def st_I (D : va_G) (A : Nat → Prop) (ws : va_W) (tys : List (ClassId × FieldType)) (U : State) : Prop := va_P D vwCl ws U.heap ∧ va_K D vwCl tys U ∧ va_D A ws
def st_W (D : va_G) (A : Nat → Prop) (H0 : Heap) (ws : va_W) (H : Heap) (locs : List Loc) : Prop := va_P D vwCl ws H ∧ va_D A ws ∧ va_S A H0 H locs
def st_E (p : Program) (s : State) (m : MethodId) (c : Code) (cc : ByteArray) (nL : Nat) (args : Array Value) (own : String) (D : va_G) (tys : List (ClassId × FieldType)) : Prop := p.tables.exec = Jvm.exec ∧ c.code = cc ∧ c.maxLocals = nL ∧ s.vm.findClass own = some m.cls ∧ (∀ w ∈ lw_all, w.before args s = true) ∧ va_K D vwCl tys s
theorem st_blind {av : List Value} {D : va_G} {A : Nat → Prop} {ws : va_W} {tys : List (ClassId × FieldType)} : FrameBlind (va_Pc av (st_I D A ws tys)) := by
  intro a U g mk q
  obtain ⟨q0, qP, qK, qD⟩ := q
  exact ⟨q0, qP, va_K.moved (u := U) (U := U.calling g mk a) (Vm.Alike.refl U.vm) qK, qD⟩
theorem st_arrV {cA : ClassId} {n : Nat} {f g : Nat → Value} (h : ∀ j, j < n → f j = g j) : arrV cA n f = arrV cA n g := by
  unfold arrV
  congr 2
  funext j
  exact h j.val j.isLt
theorem st_cell {cA : ClassId} {n : Nat} {f g : Nat → Int32} (h : ∀ j, j < n → f j = g j) : vp_cell cA (n, .inl f) = vp_cell cA (n, .inl g) := by
  rw [vp_cell_i, vp_cell_i]
  exact st_arrV (fun j hj => by rw [h j hj])
/-- an array's contents count below its length alone -/
theorem st_W.norm {D : va_G} {A : Nat → Prop} {H0 H : Heap} {locs : List Loc} {ws : va_W} {a n : Nat} {cA : ClassId} {f : Nat → Int32} (hw : st_W D A H0 ws H locs) (q0 : Nat) (ha : ws[q0]? = some (a, .inl (cA, n, .inl f))) (g : Nat → Int32) (h : ∀ j, j < n → f j = g j) : st_W D A H0 (ws.set q0 (a, .inl (cA, n, .inl g))) H locs := by
  refine ⟨hw.1.set hw.2.1 ha ?_ (fun _ _ => rfl), hw.2.1.set ha, hw.2.2⟩
  show H[a]? = some (vp_cell cA (n, .inl g))
  rw [← st_cell h]
  exact hw.1 q0 _ ha
theorem st_up {α : Type} (enc : α → Int32) (f : Nat → α) (i : Nat) (x : α) (j : Nat) : (if j = i then enc x else enc (f j)) = enc (va_up f i x j) := by
  unfold va_up
  split <;> rfl
theorem st_us {α : Type} {f : Nat → α} {i : Nat} {x : α} : va_up f i x i = x := by unfold va_up; exact if_pos rfl
theorem st_un {α : Type} {f : Nat → α} {i j : Nat} {x : α} (h : j ≠ i) : va_up f i x j = f j := by unfold va_up; exact if_neg h
theorem st_inc (i : Nat) : nI i + Int32.ofInt 1 = nI (i + 1) := nI_1 i
theorem st_inc5 (i : Nat) : nI i + Int32.ofInt 5 = nI (i + 5) := nI_add i 5
section ST
variable {p : Program} {l : Launch} {e : Env} {R : Room} {s : State} {m : MethodId} {args : Array Value} {below : List Frame} {meth : Method} {c : Code} {H : Heap} {locs : List Loc} {cells slots : Nat} {Q : State → Prop}
variable {cc : ByteArray} {pc nL : Nat} {ls : Array Slot} {rest : List Value} {D : va_G} {A : Nat → Prop} {a : Nat} {tys : List (ClassId × FieldType)} {ws : va_W} {H0 : Heap} {own : String}
/-- a loop: its invariant, and what falls -/
theorem st_loop {σ : Type} (I : σ → Heap → List Loc → Array Slot → Prop) (μ : σ → Nat) {st : List Value}
    (step : ∀ (x : σ) (H : Heap) (locs : List Loc) (ls : Array Slot), I x H locs ls → (∀ (y : σ) (H' : Heap) (locs' : List Loc) (ls' : Array Slot), I y H' locs' ls' → μ y < μ x → W p l e R s m args below meth c H' locs' cells slots Q (F0 m pc ls' st)) → W p l e R s m args below meth c H locs cells slots Q (F0 m pc ls st))
    (x : σ) (h : I x H locs ls) : W p l e R s m args below meth c H locs cells slots Q (F0 m pc ls st) := by
  have key : ∀ (n : Nat) (x : σ) (H : Heap) (locs : List Loc) (ls : Array Slot), μ x < n → I x H locs ls → W p l e R s m args below meth c H locs cells slots Q (F0 m pc ls st) := by
    intro n
    induction n with
    | zero => intro x H locs ls h1 _; exact absurd h1 (Nat.not_lt_zero _)
    | succ n ih =>
      intro x H locs ls h1 h2
      exact step x H locs ls h2 (fun y H' locs' ls' h3 h4 => ih y H' locs' ls' (Nat.lt_of_lt_of_le h4 (Nat.le_of_lt_succ h1)) h3)
  exact key (μ x + 1) x H locs ls (Nat.lt_succ_self _) h
theorem st_top {x y : Int32} (h : x = y) (k : W p l e R s m args below meth c H locs cells slots Q (F0 m pc ls (.int y :: rest))) : W p l e R s m args below meth c H locs cells slots Q (F0 m pc ls (.int x :: rest)) := by
  rw [h]; exact k
theorem st_iadd (hx : p.tables.exec = Jvm.exec) (hb : c.code = cc) {i j : Nat} (hdg : decode cc pc = .ok (.iadd, 1)) (k : W p l e R s m args below meth c H locs cells slots Q (F0 m (pc + 1) ls (.int (nI (i + j)) :: rest))) : W p l e R s m args below meth c H locs cells slots Q (F0 m pc ls (.int (nI j) :: .int (nI i) :: rest)) :=
  lv_iadd hx hb hdg (by rw [nI_add]; exact k)
theorem st_imul (hx : p.tables.exec = Jvm.exec) (hb : c.code = cc) {i j : Nat} (hdg : decode cc pc = .ok (.imul, 1)) (k : W p l e R s m args below meth c H locs cells slots Q (F0 m (pc + 1) ls (.int (nI (i * j)) :: rest))) : W p l e R s m args below meth c H locs cells slots Q (F0 m pc ls (.int (nI j) :: .int (nI i) :: rest)) :=
  lv_imul hx hb hdg (by rw [pk_mul]; exact k)
theorem st_idiv (hx : p.tables.exec = Jvm.exec) (hb : c.code = cc) {i j : Nat} (hi : i < 2 ^ 31) (h0 : 0 < j) (hj : j < 2 ^ 31) (hdg : decode cc pc = .ok (.idiv, 1)) (k : W p l e R s m args below meth c H locs cells slots Q (F0 m (pc + 1) ls (.int (nI (i / j)) :: rest))) : W p l e R s m args below meth c H locs cells slots Q (F0 m pc ls (.int (nI j) :: .int (nI i) :: rest)) :=
  lv_idiv hx hb hdg (nI_ne0 h0 hj) (by rw [pk_div hi h0 hj]; exact k)
theorem st_irem (hx : p.tables.exec = Jvm.exec) (hb : c.code = cc) {i j : Nat} (hi : i < 2 ^ 31) (h0 : 0 < j) (hj : j < 2 ^ 31) (hdg : decode cc pc = .ok (.irem, 1)) (k : W p l e R s m args below meth c H locs cells slots Q (F0 m (pc + 1) ls (.int (nI (i % j)) :: rest))) : W p l e R s m args below meth c H locs cells slots Q (F0 m pc ls (.int (nI j) :: .int (nI i) :: rest)) :=
  lv_irem hx hb hdg (nI_ne0 h0 hj) (by rw [pk_rem hi h0 hj]; exact k)
theorem st_icge (hx : p.tables.exec = Jvm.exec) (hb : c.code = cc) {i j : Nat} {off : Int} {tgt : Nat} (hdg : decode cc pc = .ok (.if_icmp .ge off, 3)) (ht : (pc : Int) + off = (tgt : Int)) (hi : i < 2 ^ 31) (hj : j < 2 ^ 31)
    (kt : j ≤ i → W p l e R s m args below meth c H locs cells slots Q (F0 m tgt ls rest)) (kf : i < j → W p l e R s m args below meth c H locs cells slots Q (F0 m (pc + 3) ls rest)) : W p l e R s m args below meth c H locs cells slots Q (F0 m pc ls (.int (nI j) :: .int (nI i) :: rest)) :=
  lv_icmp_ge hx hb hdg ht (fun h => kt ((nI_leI hj hi).mp h)) (fun h => kf (Nat.lt_of_not_le fun q => h ((nI_leI hj hi).mpr q)))
theorem st_iceq (hx : p.tables.exec = Jvm.exec) (hb : c.code = cc) {i j : Nat} {off : Int} {tgt : Nat} (hdg : decode cc pc = .ok (.if_icmp .eq off, 3)) (ht : (pc : Int) + off = (tgt : Int)) (hi : i < 2 ^ 31) (hj : j < 2 ^ 31)
    (kt : i = j → W p l e R s m args below meth c H locs cells slots Q (F0 m tgt ls rest)) (kf : i ≠ j → W p l e R s m args below meth c H locs cells slots Q (F0 m (pc + 3) ls rest)) : W p l e R s m args below meth c H locs cells slots Q (F0 m pc ls (.int (nI j) :: .int (nI i) :: rest)) :=
  lv_icmp_eq hx hb hdg ht (fun h => kt ((nI_eq hi hj).mp h)) (fun h => kf (fun q => h (by rw [q])))
theorem st_icne (hx : p.tables.exec = Jvm.exec) (hb : c.code = cc) {i j : Nat} {off : Int} {tgt : Nat} (hdg : decode cc pc = .ok (.if_icmp .ne off, 3)) (ht : (pc : Int) + off = (tgt : Int)) (hi : i < 2 ^ 31) (hj : j < 2 ^ 31)
    (kt : i ≠ j → W p l e R s m args below meth c H locs cells slots Q (F0 m tgt ls rest)) (kf : i = j → W p l e R s m args below meth c H locs cells slots Q (F0 m (pc + 3) ls rest)) : W p l e R s m args below meth c H locs cells slots Q (F0 m pc ls (.int (nI j) :: .int (nI i) :: rest)) :=
  lv_icmp_ne hx hb hdg ht (fun h => kt (fun q => h (by rw [q]))) (fun h => kf ((nI_eq hi hj).mp h))
/-- a truth on the stack, as a proposition -/
theorem st_ifeqp (hx : p.tables.exec = Jvm.exec) (hb : c.code = cc) {P : Prop} {off : Int} {tgt : Nat} (hdg : decode cc pc = .ok (.ifCond .eq off, 3)) (ht : (pc : Int) + off = (tgt : Int))
    (kt : ¬ P → W p l e R s m args below meth c H locs cells slots Q (F0 m tgt ls rest)) (kf : P → W p l e R s m args below meth c H locs cells slots Q (F0 m (pc + 3) ls rest)) : W p l e R s m args below meth c H locs cells slots Q (F0 m pc ls (.int (st_p P) :: rest)) :=
  lv_if_eq hx hb hdg ht (fun h => kt (fun q => absurd ((st_p1 q).symm.trans h) (by decide))) (fun h => kf (Classical.byContradiction fun q => h (st_p0 q)))
theorem st_ifnep (hx : p.tables.exec = Jvm.exec) (hb : c.code = cc) {P : Prop} {off : Int} {tgt : Nat} (hdg : decode cc pc = .ok (.ifCond .ne off, 3)) (ht : (pc : Int) + off = (tgt : Int))
    (kt : P → W p l e R s m args below meth c H locs cells slots Q (F0 m tgt ls rest)) (kf : ¬ P → W p l e R s m args below meth c H locs cells slots Q (F0 m (pc + 3) ls rest)) : W p l e R s m args below meth c H locs cells slots Q (F0 m pc ls (.int (st_p P) :: rest)) :=
  lv_if_ne hx hb hdg ht (fun h => kt (Classical.byContradiction fun q => h (st_p0 q))) (fun h => kf (fun q => absurd ((st_p1 q).symm.trans h) (by decide)))
theorem st_ifeqb (hx : p.tables.exec = Jvm.exec) (hb : c.code = cc) {b : Bool} {off : Int} {tgt : Nat} (hdg : decode cc pc = .ok (.ifCond .eq off, 3)) (ht : (pc : Int) + off = (tgt : Int))
    (kt : b = false → W p l e R s m args below meth c H locs cells slots Q (F0 m tgt ls rest)) (kf : b = true → W p l e R s m args below meth c H locs cells slots Q (F0 m (pc + 3) ls rest)) : W p l e R s m args below meth c H locs cells slots Q (F0 m pc ls (.int (st_b b) :: rest)) :=
  lv_if_eq hx hb hdg ht (fun h => kt (by cases b; rfl; exact absurd h (by decide))) (fun h => kf (by cases b; exact absurd rfl h; rfl))
theorem st_ifneb (hx : p.tables.exec = Jvm.exec) (hb : c.code = cc) {b : Bool} {off : Int} {tgt : Nat} (hdg : decode cc pc = .ok (.ifCond .ne off, 3)) (ht : (pc : Int) + off = (tgt : Int))
    (kt : b = true → W p l e R s m args below meth c H locs cells slots Q (F0 m tgt ls rest)) (kf : b = false → W p l e R s m args below meth c H locs cells slots Q (F0 m (pc + 3) ls rest)) : W p l e R s m args below meth c H locs cells slots Q (F0 m pc ls (.int (st_b b) :: rest)) :=
  lv_if_ne hx hb hdg ht (fun h => kt (by cases b; exact absurd rfl h; rfl)) (fun h => kf (by cases b; rfl; exact absurd h (by decide)))
theorem st_ifeqn (hx : p.tables.exec = Jvm.exec) (hb : c.code = cc) {i : Nat} {off : Int} {tgt : Nat} (hdg : decode cc pc = .ok (.ifCond .eq off, 3)) (ht : (pc : Int) + off = (tgt : Int)) (hi : i < 2 ^ 31)
    (kt : i = 0 → W p l e R s m args below meth c H locs cells slots Q (F0 m tgt ls rest)) (kf : i ≠ 0 → W p l e R s m args below meth c H locs cells slots Q (F0 m (pc + 3) ls rest)) : W p l e R s m args below meth c H locs cells slots Q (F0 m pc ls (.int (nI i) :: rest)) :=
  lv_if_eq hx hb hdg ht (fun h => kt ((nI_eq hi (by decide)).mp (h.trans nI_0.symm))) (fun h => kf (fun q => h (by rw [q]; exact nI_0)))
/-- -1 or a number -/
theorem st_ifltO (hx : p.tables.exec = Jvm.exec) (hb : c.code = cc) {o : Option Nat} {off : Int} {tgt : Nat} (hdg : decode cc pc = .ok (.ifCond .lt off, 3)) (ht : (pc : Int) + off = (tgt : Int)) (ho : ∀ k, o = some k → k < 2 ^ 31)
    (kt : o = none → W p l e R s m args below meth c H locs cells slots Q (F0 m tgt ls rest)) (kf : ∀ k, o = some k → W p l e R s m args below meth c H locs cells slots Q (F0 m (pc + 3) ls rest)) : W p l e R s m args below meth c H locs cells slots Q (F0 m pc ls (.int (st_o o) :: rest)) := by
  refine lv_if_lt hx hb hdg ht (fun h => ?_) (fun h => ?_)
  · cases o with
    | none => exact kt rfl
    | some k => exact absurd h (nI_pos (ho k rfl))
  · cases o with
    | none => exact absurd (show st_o none < 0 by decide) h
    | some k => exact kf k rfl
theorem st_ifgeO (hx : p.tables.exec = Jvm.exec) (hb : c.code = cc) {o : Option Nat} {off : Int} {tgt : Nat} (hdg : decode cc pc = .ok (.ifCond .ge off, 3)) (ht : (pc : Int) + off = (tgt : Int)) (ho : ∀ k, o = some k → k < 2 ^ 31)
    (kt : ∀ k, o = some k → W p l e R s m args below meth c H locs cells slots Q (F0 m tgt ls rest)) (kf : o = none → W p l e R s m args below meth c H locs cells slots Q (F0 m (pc + 3) ls rest)) : W p l e R s m args below meth c H locs cells slots Q (F0 m pc ls (.int (st_o o) :: rest)) := by
  refine lv_if_ge hx hb hdg ht (fun h => ?_) (fun h => ?_)
  · cases o with
    | none => exact absurd h (show ¬ (0 ≤ st_o none) by decide)
    | some k => exact kt k rfl
  · cases o with
    | none => exact kf rfl
    | some k => exact absurd (nI_pos' (ho k rfl)) h
/-- the diamond 'x == 0 ? 0 : 1' -/
theorem st_diaeq (hx : p.tables.exec = Jvm.exec) (hb : c.code = cc) {x v : Int32} (d0 : decode cc pc = .ok (.ifCond .eq 7, 3)) (d1 : decode cc (pc + 3) = .ok (.iconst 1, 1)) (d2 : decode cc (pc + 4) = .ok (.goto 4, 3)) (d3 : decode cc (pc + 7) = .ok (.iconst 0, 1)) (h0 : x = 0 → v = 0) (h1 : ¬ x = 0 → v = 1)
    (k : W p l e R s m args below meth c H locs cells slots Q (F0 m (pc + 8) ls (.int v :: rest))) : W p l e R s m args below meth c H locs cells slots Q (F0 m pc ls (.int x :: rest)) := by
  refine lv_if_eq (tgt := pc + 7) hx hb d0 (by omega) (fun h => ?_) (fun h => ?_)
  · refine lv_iconst (v := 0) hx hb d3 rfl ?_
    rw [← h0 h]; exact k
  · refine lv_iconst (v := 1) hx hb d1 rfl ?_
    refine lv_goto (tgt := pc + 8) hx hb d2 (by omega) ?_
    rw [← h1 h]; exact k
/-- the diamond 'x < 0 ? 0 : 1' -/
theorem st_dialt (hx : p.tables.exec = Jvm.exec) (hb : c.code = cc) {x v : Int32} (d0 : decode cc pc = .ok (.ifCond .lt 7, 3)) (d1 : decode cc (pc + 3) = .ok (.iconst 1, 1)) (d2 : decode cc (pc + 4) = .ok (.goto 4, 3)) (d3 : decode cc (pc + 7) = .ok (.iconst 0, 1)) (h0 : x < 0 → v = 0) (h1 : ¬ x < 0 → v = 1)
    (k : W p l e R s m args below meth c H locs cells slots Q (F0 m (pc + 8) ls (.int v :: rest))) : W p l e R s m args below meth c H locs cells slots Q (F0 m pc ls (.int x :: rest)) := by
  refine lv_if_lt (tgt := pc + 7) hx hb d0 (by omega) (fun h => ?_) (fun h => ?_)
  · refine lv_iconst (v := 0) hx hb d3 rfl ?_
    rw [← h0 h]; exact k
  · refine lv_iconst (v := 1) hx hb d1 rfl ?_
    refine lv_goto (tgt := pc + 8) hx hb d2 (by omega) ?_
    rw [← h1 h]; exact k
theorem st_get0 (E : st_E p s m c cc nL args RX0 D tys) (hw : st_W D A H0 ws H locs) {fs : List Value} (he : ws[0]? = some (a, .inr (0, fs))) (k : Nat) (hk : k < 11) {index : Nat} (hlink : Cond.fieldLink RX0 index (TX0 k).1 (TX0 k).2.1 (TX0 k).2.2.1 ∈ lw_all) {v : Value} (hv : fs[k]? = some v) (hdg : decode cc pc = .ok (.getfield index, 3))
    (kk : W p l e R s m args below meth c H locs cells slots Q (F0 m (pc + 3) ls (v :: rest))) : W p l e R s m args below meth c H locs cells slots Q (F0 m pc ls (.ref a :: rest)) :=
  va_get (D := D) (ci := 0) (v := v) (C := RX0) (T := TX0) (N := 11) E.1 E.2.1 E.2.2.2.2.1 in_X0 E.2.2.2.1 E.2.2.2.2.2 hw.1 0 he rfl k hk (E.2.2.2.2.1 _ hlink) (fun _ h9 => h9) hv hdg kk
theorem st_get1 (E : st_E p s m c cc nL args RX1 D tys) (hw : st_W D A H0 ws H locs) {fs : List Value} (he : ws[0]? = some (a, .inr (1, fs))) (k : Nat) (hk : k < 7) {index : Nat} (hlink : Cond.fieldLink RX1 index (TX1 k).1 (TX1 k).2.1 (TX1 k).2.2.1 ∈ lw_all) {v : Value} (hv : fs[k]? = some v) (hdg : decode cc pc = .ok (.getfield index, 3))
    (kk : W p l e R s m args below meth c H locs cells slots Q (F0 m (pc + 3) ls (v :: rest))) : W p l e R s m args below meth c H locs cells slots Q (F0 m pc ls (.ref a :: rest)) :=
  va_get (D := D) (ci := 1) (v := v) (C := RX1) (T := TX1) (N := 7) E.1 E.2.1 E.2.2.2.2.1 in_X1 E.2.2.2.1 E.2.2.2.2.2 hw.1 0 he rfl k hk (E.2.2.2.2.1 _ hlink) (fun _ h9 => h9) hv hdg kk
theorem st_put0 (E : st_E p s m c cc nL args RX0 D tys) (hw : st_W D A H0 ws H locs) {fs : List Value} (he : ws[0]? = some (a, .inr (0, fs))) (k : Nat) (hk : k < 11) {index : Nat} (hlink : Cond.fieldLink RX0 index (TX0 k).1 (TX0 k).2.1 (TX0 k).2.2.1 ∈ lw_all) (hfin : (TX0 k).2.2.2 = false) (ty : FieldType) {v : Value} (hd : parseFieldDescriptor (TX0 k).2.2.1 = some ty) (hn : narrow ty v = v) (hfit : fits ty v = true) (hl : k < fs.length) (hdg : decode cc pc = .ok (.putfield index, 3))
    (kk : ∀ (H1 : Heap) (locs1 : List Loc), st_W D A H0 (ws.set 0 (a, .inr (0, fs.set k v))) H1 locs1 → W p l e R s m args below meth c H1 locs1 cells slots Q (F0 m (pc + 3) ls rest)) : W p l e R s m args below meth c H locs cells slots Q (F0 m pc ls (v :: .ref a :: rest)) :=
  va_put (D := D) (ci := 0) (v := v) (ty := ty) (C := RX0) (T := TX0) (N := 11) E.1 E.2.1 E.2.2.2.2.1 in_X0 tyX0 tyX0_ok nmX0 E.2.2.2.1 E.2.2.2.2.2 hw.1 hw.2.1 hw.2.2 0 he rfl k hk (E.2.2.2.2.1 _ hlink) (fun _ h9 => h9) hfin hd hn hfit hl hdg (fun H1 locs1 h1 h2 h3 => kk H1 locs1 ⟨h1, h2, h3⟩)
theorem st_put1 (E : st_E p s m c cc nL args RX1 D tys) (hw : st_W D A H0 ws H locs) {fs : List Value} (he : ws[0]? = some (a, .inr (1, fs))) (k : Nat) (hk : k < 7) {index : Nat} (hlink : Cond.fieldLink RX1 index (TX1 k).1 (TX1 k).2.1 (TX1 k).2.2.1 ∈ lw_all) (hfin : (TX1 k).2.2.2 = false) (ty : FieldType) {v : Value} (hd : parseFieldDescriptor (TX1 k).2.2.1 = some ty) (hn : narrow ty v = v) (hfit : fits ty v = true) (hl : k < fs.length) (hdg : decode cc pc = .ok (.putfield index, 3))
    (kk : ∀ (H1 : Heap) (locs1 : List Loc), st_W D A H0 (ws.set 0 (a, .inr (1, fs.set k v))) H1 locs1 → W p l e R s m args below meth c H1 locs1 cells slots Q (F0 m (pc + 3) ls rest)) : W p l e R s m args below meth c H locs cells slots Q (F0 m pc ls (v :: .ref a :: rest)) :=
  va_put (D := D) (ci := 1) (v := v) (ty := ty) (C := RX1) (T := TX1) (N := 7) E.1 E.2.1 E.2.2.2.2.1 in_X1 tyX1 tyX1_ok nmX1 E.2.2.2.1 E.2.2.2.2.2 hw.1 hw.2.1 hw.2.2 0 he rfl k hk (E.2.2.2.2.1 _ hlink) (fun _ h9 => h9) hfin hd hn hfit hl hdg (fun H1 locs1 h1 h2 h3 => kk H1 locs1 ⟨h1, h2, h3⟩)
theorem st_iald (E : st_E p s m c cc nL args own D tys) (hw : st_W D A H0 ws H locs) (q0 t0 : Nat) {cA : ClassId} {n : Nat} {f : Nat → Int32} (ha : ws[q0]? = some (a, .inl (cA, n, .inl f))) (ht : tys[t0]? = some (cA, .int)) {i : Nat} (hi : i < n) (hn : n < 2 ^ 31) {v : Int32} (hv : f i = v) (hdg : decode cc pc = .ok (.iaload, 1))
    (kk : W p l e R s m args below meth c H locs cells slots Q (F0 m (pc + 1) ls (.int v :: rest))) : W p l e R s m args below meth c H locs cells slots Q (F0 m pc ls (.int (nI i) :: .ref a :: rest)) :=
  va_iald E.1 E.2.1 E.2.2.2.2.2 hw.1 q0 t0 ha ht (vp_in_nI hi hn) hdg (by rw [nI_clamp (Nat.lt_trans hi hn), hv]; exact kk)
theorem st_zald (E : st_E p s m c cc nL args own D tys) (hw : st_W D A H0 ws H locs) (q0 t0 : Nat) {cA : ClassId} {n : Nat} {f : Nat → Int32} (ha : ws[q0]? = some (a, .inl (cA, n, .inl f))) (ht : tys[t0]? = some (cA, .boolean)) {i : Nat} (hi : i < n) (hn : n < 2 ^ 31) {v : Int32} (hv : f i = v) (hdg : decode cc pc = .ok (.baload, 1))
    (kk : W p l e R s m args below meth c H locs cells slots Q (F0 m (pc + 1) ls (.int v :: rest))) : W p l e R s m args below meth c H locs cells slots Q (F0 m pc ls (.int (nI i) :: .ref a :: rest)) :=
  va_zald E.1 E.2.1 E.2.2.2.2.2 hw.1 q0 t0 ha ht (vp_in_nI hi hn) hdg (by rw [nI_clamp (Nat.lt_trans hi hn), hv]; exact kk)
theorem st_bald (E : st_E p s m c cc nL args own D tys) (hw : st_W D A H0 ws H locs) (q0 t0 : Nat) {cA : ClassId} {n : Nat} {f : Nat → Int32} (ha : ws[q0]? = some (a, .inl (cA, n, .inl f))) (ht : tys[t0]? = some (cA, .byte)) {i : Nat} (hi : i < n) (hn : n < 2 ^ 31) {v : Int32} (hv : f i = v) (hdg : decode cc pc = .ok (.baload, 1))
    (kk : W p l e R s m args below meth c H locs cells slots Q (F0 m (pc + 1) ls (.int v :: rest))) : W p l e R s m args below meth c H locs cells slots Q (F0 m pc ls (.int (nI i) :: .ref a :: rest)) :=
  va_bald E.1 E.2.1 E.2.2.2.2.2 hw.1 q0 t0 ha ht (vp_in_nI hi hn) hdg (by rw [nI_clamp (Nat.lt_trans hi hn), hv]; exact kk)
theorem st_upd {f g : Nat → Int32} {i : Nat} {x : Int32} (h : ∀ j, (if j = i then x else f j) = g j) : upd f i x = g := funext h
theorem st_iast (E : st_E p s m c cc nL args own D tys) (hw : st_W D A H0 ws H locs) (q0 t0 : Nat) {cA : ClassId} {n : Nat} {f : Nat → Int32} (ha : ws[q0]? = some (a, .inl (cA, n, .inl f))) (ht : tys[t0]? = some (cA, .int)) {i : Nat} (hi : i < n) (hn : n < 2 ^ 31) {x : Int32} (g : Nat → Int32) (hg : ∀ j, (if j = i then x else f j) = g j) (hdg : decode cc pc = .ok (.iastore, 1))
    (kk : ∀ (H1 : Heap) (locs1 : List Loc), st_W D A H0 (ws.set q0 (a, .inl (cA, n, .inl g))) H1 locs1 → W p l e R s m args below meth c H1 locs1 cells slots Q (F0 m (pc + 1) ls rest)) : W p l e R s m args below meth c H locs cells slots Q (F0 m pc ls (.int x :: .int (nI i) :: .ref a :: rest)) := by
  refine va_iast E.1 E.2.1 E.2.2.2.2.2 hw.1 hw.2.1 hw.2.2 q0 t0 ha ht (vp_in_nI hi hn) hdg (fun H1 locs1 h1 h2 h3 => ?_)
  rw [nI_clamp (Nat.lt_trans hi hn), st_upd hg] at h1 h2
  exact kk H1 locs1 ⟨h1, h2, h3⟩
theorem st_zast (E : st_E p s m c cc nL args own D tys) (hw : st_W D A H0 ws H locs) (q0 t0 : Nat) {cA : ClassId} {n : Nat} {f : Nat → Int32} (ha : ws[q0]? = some (a, .inl (cA, n, .inl f))) (ht : tys[t0]? = some (cA, .boolean)) {i : Nat} (hi : i < n) (hn : n < 2 ^ 31) {x : Int32} (y : Int32) (hxy : vp_nar .boolean x = y) (g : Nat → Int32) (hg : ∀ j, (if j = i then y else f j) = g j) (hdg : decode cc pc = .ok (.bastore, 1))
    (kk : ∀ (H1 : Heap) (locs1 : List Loc), st_W D A H0 (ws.set q0 (a, .inl (cA, n, .inl g))) H1 locs1 → W p l e R s m args below meth c H1 locs1 cells slots Q (F0 m (pc + 1) ls rest)) : W p l e R s m args below meth c H locs cells slots Q (F0 m pc ls (.int x :: .int (nI i) :: .ref a :: rest)) := by
  refine va_zast E.1 E.2.1 E.2.2.2.2.2 hw.1 hw.2.1 hw.2.2 q0 t0 ha ht (vp_in_nI hi hn) hdg (fun H1 locs1 h1 h2 h3 => ?_)
  rw [nI_clamp (Nat.lt_trans hi hn), hxy, st_upd hg] at h1 h2
  exact kk H1 locs1 ⟨h1, h2, h3⟩
theorem st_bast (E : st_E p s m c cc nL args own D tys) (hw : st_W D A H0 ws H locs) (q0 t0 : Nat) {cA : ClassId} {n : Nat} {f : Nat → Int32} (ha : ws[q0]? = some (a, .inl (cA, n, .inl f))) (ht : tys[t0]? = some (cA, .byte)) {i : Nat} (hi : i < n) (hn : n < 2 ^ 31) {x : Int32} (y : Int32) (hxy : vp_nar .byte x = y) (g : Nat → Int32) (hg : ∀ j, (if j = i then y else f j) = g j) (hdg : decode cc pc = .ok (.bastore, 1))
    (kk : ∀ (H1 : Heap) (locs1 : List Loc), st_W D A H0 (ws.set q0 (a, .inl (cA, n, .inl g))) H1 locs1 → W p l e R s m args below meth c H1 locs1 cells slots Q (F0 m (pc + 1) ls rest)) : W p l e R s m args below meth c H locs cells slots Q (F0 m pc ls (.int x :: .int (nI i) :: .ref a :: rest)) := by
  refine va_bast E.1 E.2.1 E.2.2.2.2.2 hw.1 hw.2.1 hw.2.2 q0 t0 ha ht (vp_in_nI hi hn) hdg (fun H1 locs1 h1 h2 h3 => ?_)
  rw [nI_clamp (Nat.lt_trans hi hn), hxy, st_upd hg] at h1 h2
  exact kk H1 locs1 ⟨h1, h2, h3⟩
/-- a method's start: no cells made -/
theorem st_start {y : MethodName} {code : ByteArray} {ret : Option FieldType} {rm : Room} {Qc : Array Value → State → Outcome → State → Prop} {av : List Value} (hy : plainName y.cls = true) (hlen : (lg_sl av).length ≤ nL)
    (body : ∀ (p : Program) (e : Env) (s : State) (m : MethodId) (below : List Frame) (meth : Method) (c : Code), st_E p s m c code nL av.toArray y.cls D tys → meth.sig.returnType = ret → meth.locks = false → st_W D A s.heap ws s.heap [] → ∀ ls : Array Slot, lv_has ls nL (lv_args 0 av) → W p l e rm s m av.toArray below meth c s.heap [] 0 0 (MQ below Qc av.toArray s 0 0 A) (F0 m 0 ls [])) :
    Met l y (ws_ y code nL ret) rm (va_Pc av (st_I D A ws tys)) Qc 0 0 A := by
  refine Met.ofW (cc := code) (maxL := nL) (ret := ret) hy rfl ?_
  intro p e s m args below meth c s₁ B hml hv
  obtain ⟨rfl, hP, hK, hD⟩ := hv
  have hts := atoms_spec (ws := ws_ y code nL ret) B.pre
  rw [lg_entry_eq]
  exact body p e s m below meth c ⟨B.exec, B.bytes, hml, findClass_of_methodNamed B.named, fun w h => hts w (List.mem_cons_of_mem _ h), hK⟩ B.returns B.notSynchronized ⟨hP, hD, va_S.rf⟩ _ (lv_entry av hlen)
theorem st_ri {S : Type} {post : Int32 → S → Prop} {wo : S → va_W} (E : st_E p s m c cc nL args own D tys) (hr : meth.sig.returnType = some .int) (hlk : meth.locks = false) (u : S) (hw : st_W D A s.heap (wo u) H locs) {v : Int32} (hp : post v u) (hdg : decode cc pc = .ok (.ireturn, 1)) :
    W p l e R s m args below meth c H locs 0 0 (MQ below (va_Qi post (fun u t => st_I D A (wo u) tys t) A) args s 0 0 A) (F0 m pc ls [.int v]) :=
  W.iret E.1 E.2.1 hr (fun t ht hW => ⟨⟨v, u, rfl, hp, by rw [ht]; exact hw.1, va_K.moved hW.alike E.2.2.2.2.2, hw.2.1⟩, hw.2.2.F ht⟩) hw.2.2.2.2 hdg hlk
theorem st_rz {S : Type} {post : Int32 → S → Prop} {wo : S → va_W} (E : st_E p s m c cc nL args own D tys) (hr : meth.sig.returnType = some .boolean) (hlk : meth.locks = false) (u : S) (hw : st_W D A s.heap (wo u) H locs) {v : Int32} (hn : narrow .boolean (.int v) = .int v) (hp : post v u) (hdg : decode cc pc = .ok (.ireturn, 1)) :
    W p l e R s m args below meth c H locs 0 0 (MQ below (va_Qi post (fun u t => st_I D A (wo u) tys t) A) args s 0 0 A) (F0 m pc ls [.int v]) :=
  W.zret E.1 E.2.1 hr hn (fun t ht hW => ⟨⟨v, u, rfl, hp, by rw [ht]; exact hw.1, va_K.moved hW.alike E.2.2.2.2.2, hw.2.1⟩, hw.2.2.F ht⟩) hw.2.2.2.2 hdg hlk
theorem st_rv {S : Type} {post : S → Prop} {wo : S → va_W} (E : st_E p s m c cc nL args own D tys) (hr : meth.sig.returnType = none) (hlk : meth.locks = false) (u : S) (hw : st_W D A s.heap (wo u) H locs) (hp : post u) (hdg : decode cc pc = .ok (.return_, 1)) :
    W p l e R s m args below meth c H locs 0 0 (MQ below (va_Qv post (fun u t => st_I D A (wo u) tys t) A) args s 0 0 A) (F0 m pc ls []) :=
  W.vret E.1 E.2.1 hr (fun t ht hW => ⟨⟨u, rfl, hp, by rw [ht]; exact hw.1, va_K.moved hW.alike E.2.2.2.2.2, hw.2.1⟩, hw.2.2.F ht⟩) hw.2.2.2.2 hdg hlk
section CALLS
variable {y : MethodName} {bytes : ByteArray} {maxL index n : Nat} {ret : Option FieldType} {rm : Room} {C : String} {As st0 : List Value} {S : Type} {wo : S → va_W} {A1 : Nat → Prop} {wi : va_W} {tyc : List (ClassId × FieldType)} {b ci : Nat} {fs : List Value} {q : vw_C}
theorem st_callV {post : Int32 → S → Prop} (E : st_E p s m c cc nL args own D tys) (hS : va_S A H0 H locs) (hM : Met l y (ws_ y bytes maxL ret) rm (va_Pc (.ref b :: As) (st_I D A1 wi tyc)) (va_Qi post (fun u t => st_I D A1 (wo u) tyc t) A1) 0 0 A1) (hP : va_P D vwCl wi H) (hD : va_D A1 wi) (hK : va_K D vwCl tyc s) (hAA : ∀ q, A1 q → A q)
    (g : GoodIn lw_all (wsV own index C y (ws_ y bytes maxL ret))) (hd : y.cls = C ∧ y.cls ≠ "java/lang/invoke/MethodHandle" ∧ y.cls ≠ "java/lang/invoke/VarHandle" ∧ (parseMethodDescriptor y.desc).map (fun d => d.parameters.length) = some n) (hn : As.length = n) (hrm : rm.cells = 0 ∧ rm.slots = 0) (hR : rm.frames + 1 ≤ R.frames ∧ 8 + (maxL + 11) + rm.locals ≤ R.locals)
    (hc : vwCl[ci]? = some q) (hC : q.1 = C) (he : wi[0]? = some (b, .inr (ci, fs))) (hsize : ls.size = nL) (hst : st0 = As.reverse ++ .ref b :: rest) (hroom : (rest.map fun v => v.category).sum ≤ 8) (hcs : cells ≤ R.cells ∧ slots ≤ R.slots) (hdg : decode cc pc = .ok (.invokevirtual index, 3))
    (kk : ∀ (r : Int32) (u : S) (H1 : Heap) (locs1 : List Loc), post r u → va_P D vwCl (wo u) H1 → va_D A1 (wo u) → (∀ q : Nat, q < H.size → ¬ A1 q → H1[q]? = H[q]?) → va_S A H0 H1 locs1 → W p l e R s m args below meth c H1 locs1 cells slots Q (F0 m (pc + 3) ls (.int r :: rest))) : W p l e R s m args below meth c H locs cells slots Q (F0 m pc ls st0) := by
  subst hst
  subst hC
  refine va_calli (va_runV (As := As) (rest := rest) ⟨E.1, E.2.1, E.2.2.1, E.2.2.2.1, E.2.2.2.2.1⟩ hM (cwV n E.2.2.2.2.1 g rfl hrm.1 hrm.2 hd hR) ⟨st_blind, va_recv hK hP (ci := ci) (q0 := 0) hc he, fun U hU hW => ⟨rfl, by rw [hU]; exact hP, va_K.moved hW.alike hK, hD⟩⟩ rfl hn hsize rfl (lv_room hroom) hdg hcs) hS (fun q _ h => hAA q h) hAA (fun r u t H1 locs1 ht hvm hp hB hz hk hS1 => ?_)
  obtain ⟨hP1, hK1, hD1⟩ := hB
  rw [ht] at hP1
  exact kk r u H1 locs1 hp hP1 hD1 hk hS1
theorem st_callVv {post : S → Prop} (E : st_E p s m c cc nL args own D tys) (hS : va_S A H0 H locs) (hM : Met l y (ws_ y bytes maxL ret) rm (va_Pc (.ref b :: As) (st_I D A1 wi tyc)) (va_Qv post (fun u t => st_I D A1 (wo u) tyc t) A1) 0 0 A1) (hP : va_P D vwCl wi H) (hD : va_D A1 wi) (hK : va_K D vwCl tyc s) (hAA : ∀ q, A1 q → A q)
    (g : GoodIn lw_all (wsV own index C y (ws_ y bytes maxL ret))) (hd : y.cls = C ∧ y.cls ≠ "java/lang/invoke/MethodHandle" ∧ y.cls ≠ "java/lang/invoke/VarHandle" ∧ (parseMethodDescriptor y.desc).map (fun d => d.parameters.length) = some n) (hn : As.length = n) (hrm : rm.cells = 0 ∧ rm.slots = 0) (hR : rm.frames + 1 ≤ R.frames ∧ 8 + (maxL + 11) + rm.locals ≤ R.locals)
    (hc : vwCl[ci]? = some q) (hC : q.1 = C) (he : wi[0]? = some (b, .inr (ci, fs))) (hsize : ls.size = nL) (hst : st0 = As.reverse ++ .ref b :: rest) (hroom : (rest.map fun v => v.category).sum ≤ 8) (hcs : cells ≤ R.cells ∧ slots ≤ R.slots) (hdg : decode cc pc = .ok (.invokevirtual index, 3))
    (kk : ∀ (u : S) (H1 : Heap) (locs1 : List Loc), post u → va_P D vwCl (wo u) H1 → va_D A1 (wo u) → (∀ q : Nat, q < H.size → ¬ A1 q → H1[q]? = H[q]?) → va_S A H0 H1 locs1 → W p l e R s m args below meth c H1 locs1 cells slots Q (F0 m (pc + 3) ls rest)) : W p l e R s m args below meth c H locs cells slots Q (F0 m pc ls st0) := by
  subst hst
  subst hC
  refine va_callv (va_runV (As := As) (rest := rest) ⟨E.1, E.2.1, E.2.2.1, E.2.2.2.1, E.2.2.2.2.1⟩ hM (cwV n E.2.2.2.2.1 g rfl hrm.1 hrm.2 hd hR) ⟨st_blind, va_recv hK hP (ci := ci) (q0 := 0) hc he, fun U hU hW => ⟨rfl, by rw [hU]; exact hP, va_K.moved hW.alike hK, hD⟩⟩ rfl hn hsize rfl (lv_room hroom) hdg hcs) hS (fun q _ h => hAA q h) hAA (fun u t H1 locs1 ht hvm hp hB hz hk hS1 => ?_)
  obtain ⟨hP1, hK1, hD1⟩ := hB
  rw [ht] at hP1
  exact kk u H1 locs1 hp hP1 hD1 hk hS1
/-- a call of a method of this very object: its world is the caller's -/
theorem st_callT {post : Int32 → S → Prop} (E : st_E p s m c cc nL args own D tys) (hw : st_W D A H0 ws H locs) (hM : Met l y (ws_ y bytes maxL ret) rm (va_Pc (.ref b :: As) (st_I D A ws tys)) (va_Qi post (fun u t => st_I D A (wo u) tys t) A) 0 0 A)
    (g : GoodIn lw_all (wsV own index C y (ws_ y bytes maxL ret))) (hd : y.cls = C ∧ y.cls ≠ "java/lang/invoke/MethodHandle" ∧ y.cls ≠ "java/lang/invoke/VarHandle" ∧ (parseMethodDescriptor y.desc).map (fun d => d.parameters.length) = some n) (hn : As.length = n) (hrm : rm.cells = 0 ∧ rm.slots = 0) (hR : rm.frames + 1 ≤ R.frames ∧ 8 + (maxL + 11) + rm.locals ≤ R.locals)
    (hc : vwCl[ci]? = some q) (hC : q.1 = C) (he : ws[0]? = some (b, .inr (ci, fs))) (hsize : ls.size = nL) (hst : st0 = As.reverse ++ .ref b :: rest) (hroom : (rest.map fun v => v.category).sum ≤ 8) (hdg : decode cc pc = .ok (.invokevirtual index, 3))
    (kk : ∀ (r : Int32) (u : S) (H1 : Heap) (locs1 : List Loc), post r u → st_W D A H0 (wo u) H1 locs1 → W p l e R s m args below meth c H1 locs1 0 0 Q (F0 m (pc + 3) ls (.int r :: rest))) : W p l e R s m args below meth c H locs 0 0 Q (F0 m pc ls st0) :=
  st_callV E hw.2.2 hM hw.1 hw.2.1 E.2.2.2.2.2 (fun _ h => h) g hd hn hrm hR hc hC he hsize hst hroom ⟨Nat.zero_le _, Nat.zero_le _⟩ hdg (fun r u H1 locs1 hp hP1 hD1 _ hS1 => kk r u H1 locs1 hp ⟨hP1, hD1, hS1⟩)
theorem st_callTv {post : S → Prop} (E : st_E p s m c cc nL args own D tys) (hw : st_W D A H0 ws H locs) (hM : Met l y (ws_ y bytes maxL ret) rm (va_Pc (.ref b :: As) (st_I D A ws tys)) (va_Qv post (fun u t => st_I D A (wo u) tys t) A) 0 0 A)
    (g : GoodIn lw_all (wsV own index C y (ws_ y bytes maxL ret))) (hd : y.cls = C ∧ y.cls ≠ "java/lang/invoke/MethodHandle" ∧ y.cls ≠ "java/lang/invoke/VarHandle" ∧ (parseMethodDescriptor y.desc).map (fun d => d.parameters.length) = some n) (hn : As.length = n) (hrm : rm.cells = 0 ∧ rm.slots = 0) (hR : rm.frames + 1 ≤ R.frames ∧ 8 + (maxL + 11) + rm.locals ≤ R.locals)
    (hc : vwCl[ci]? = some q) (hC : q.1 = C) (he : ws[0]? = some (b, .inr (ci, fs))) (hsize : ls.size = nL) (hst : st0 = As.reverse ++ .ref b :: rest) (hroom : (rest.map fun v => v.category).sum ≤ 8) (hdg : decode cc pc = .ok (.invokevirtual index, 3))
    (kk : ∀ (u : S) (H1 : Heap) (locs1 : List Loc), post u → st_W D A H0 (wo u) H1 locs1 → W p l e R s m args below meth c H1 locs1 0 0 Q (F0 m (pc + 3) ls rest)) : W p l e R s m args below meth c H locs 0 0 Q (F0 m pc ls st0) :=
  st_callVv E hw.2.2 hM hw.1 hw.2.1 E.2.2.2.2.2 (fun _ h => h) g hd hn hrm hR hc hC he hsize hst hroom ⟨Nat.zero_le _, Nat.zero_le _⟩ hdg (fun u H1 locs1 hp hP1 hD1 _ hS1 => kk u H1 locs1 hp ⟨hP1, hD1, hS1⟩)
/-- a static call over the caller's world -/
theorem st_callS {post : Int32 → S → Prop} (E : st_E p s m c cc nL args own D tys) (hw : st_W D A H0 ws H locs) (hM : Met l y (ws_ y bytes maxL ret) rm (va_Pc As (st_I D A ws tys)) (va_Qi post (fun u t => st_I D A (wo u) tys t) A) 0 0 A)
    (g : GoodIn lw_all (va_wsS own index y (ws_ y bytes maxL ret))) (hd : y.cls ≠ "java/lang/invoke/MethodHandle" ∧ y.cls ≠ "java/lang/invoke/VarHandle" ∧ (parseMethodDescriptor y.desc).map (fun d => d.parameters.length) = some n) (hn : As.length = n) (hrm : rm.cells = 0 ∧ rm.slots = 0) (hR : rm.frames + 1 ≤ R.frames ∧ 8 + (maxL + 11) + rm.locals ≤ R.locals)
    (hsize : ls.size = nL) (hst : st0 = As.reverse ++ rest) (hroom : (rest.map fun v => v.category).sum ≤ 8) (hdg : decode cc pc = .ok (.invokestatic index, 3))
    (kk : ∀ (r : Int32) (u : S) (H1 : Heap) (locs1 : List Loc), post r u → st_W D A H0 (wo u) H1 locs1 → W p l e R s m args below meth c H1 locs1 0 0 Q (F0 m (pc + 3) ls (.int r :: rest))) : W p l e R s m args below meth c H locs 0 0 Q (F0 m pc ls st0) := by
  subst hst
  refine va_calli (va_runS (As := As) (rest := rest) ⟨E.1, E.2.1, E.2.2.1, E.2.2.2.1, E.2.2.2.2.1⟩ hM (va_cwS n E.2.2.2.2.1 g rfl hrm.1 hrm.2 hd hR) ⟨st_blind, fun U hU hW => ⟨rfl, by rw [hU]; exact hw.1, va_K.moved hW.alike E.2.2.2.2.2, hw.2.1⟩⟩ rfl hn hsize rfl (lv_room hroom) hdg ⟨Nat.zero_le _, Nat.zero_le _⟩) hw.2.2 (fun q _ h => h) (fun q h => h) (fun r u t H1 locs1 ht hvm hp hB hz hk hS1 => ?_)
  obtain ⟨hP1, hK1, hD1⟩ := hB
  rw [ht] at hP1
  exact kk r u H1 locs1 hp ⟨hP1, hD1, hS1⟩
end CALLS
end ST
end
section
/-! the plain law: subtyping as the greatest relation closed under the rules; what a search knows; counts and masks -/
abbrev TT : Type := (Nat → Nat) × (Nat → Nat) × (Nat → Nat) × (Nat → Option Nat) × (Nat → Bool)
abbrev tS (T : TT) : Nat → Nat := T.1
abbrev tA (T : TT) : Nat → Nat := T.2.1
abbrev tR (T : TT) : Nat → Nat := T.2.2.1
abbrev tF (T : TT) : Nat → Option Nat := T.2.2.2.1
abbrev tO (T : TT) : Nat → Bool := T.2.2.2.2
def st_wf (T : TT) : Prop := (∀ j, tS T j < 6) ∧ (∀ j, tA T j < 16) ∧ (∀ j, tR T j < 16) ∧ ∀ j x, tF T j = some x → x < 16
def st_fr (T : TT) (R : Nat → Prop) (a b : Nat) : Prop := ∀ y, tF T b = some y → ∃ x, tF T a = some x ∧ (tO T a = true → tO T b = true) ∧ R (x * 16 + y)
/-- one of the rules holds for the pair, its parts taken from R -/
def st_rl (T : TT) (R : Nat → Prop) (s t : Nat) : Prop := tS T t = 2 ∨ tS T s = 3 ∨ (tS T s = tS T t ∧ (tS T s = 4 → R (tA T t * 16 + tA T s) ∧ R (tR T s * 16 + tR T t)) ∧ (tS T s = 5 → ∀ l, l < 4 → st_fr T R (s * 4 + l) (t * 4 + l)))
/-- subtyping of a pair -/
def st_Sb (T : TT) (p : Nat) : Prop := ∃ R : Nat → Prop, R p ∧ ∀ q, R q → q < 256 ∧ st_rl T R (q / 16) (q % 16)
theorem st_fr_mono {T : TT} {R R' : Nat → Prop} {a b : Nat} (h : ∀ q, R q → R' q) (hr : st_fr T R a b) : st_fr T R' a b := by
  intro y hy
  obtain ⟨x, hx, ho, hR⟩ := hr y hy
  exact ⟨x, hx, ho, h _ hR⟩
theorem st_rl_mono {T : TT} {R R' : Nat → Prop} {s t : Nat} (h : ∀ q, R q → R' q) (hr : st_rl T R s t) : st_rl T R' s t := by
  rcases hr with h1 | h1 | ⟨h1, h2, h3⟩
  · exact Or.inl h1
  · exact Or.inr (Or.inl h1)
  · exact Or.inr (Or.inr ⟨h1, fun h4 => ⟨h _ (h2 h4).1, h _ (h2 h4).2⟩, fun h5 l hl => st_fr_mono h (h3 h5 l hl)⟩)
theorem st_rl_inv {T : TT} {R : Nat → Prop} {s t : Nat} (h2 : tS T t ≠ 2) (h3 : tS T s ≠ 3) (hr : st_rl T R s t) : tS T s = tS T t ∧ (tS T s = 4 → R (tA T t * 16 + tA T s) ∧ R (tR T s * 16 + tR T t)) ∧ (tS T s = 5 → ∀ l, l < 4 → st_fr T R (s * 4 + l) (t * 4 + l)) := by
  rcases hr with h | h | h
  · exact absurd h h2
  · exact absurd h h3
  · exact h
theorem st_Sb_lt {T : TT} {p : Nat} (h : st_Sb T p) : p < 256 := by
  obtain ⟨R, h1, h2⟩ := h
  exact (h2 p h1).1
theorem st_Sb_rl {T : TT} {p : Nat} (h : st_Sb T p) : st_rl T (st_Sb T) (p / 16) (p % 16) := by
  obtain ⟨R, h1, h2⟩ := h
  exact st_rl_mono (fun q hq => ⟨R, hq, h2⟩) (h2 p h1).2
theorem st_Sb_co {T : TT} {R : Nat → Prop} (h : ∀ q, R q → q < 256 ∧ st_rl T (fun x => R x ∨ st_Sb T x) (q / 16) (q % 16)) {p : Nat} (hp : R p) : st_Sb T p := by
  refine ⟨fun x => R x ∨ st_Sb T x, Or.inl hp, fun q hq => ?_⟩
  rcases hq with hq | hq
  · exact h q hq
  · exact ⟨st_Sb_lt hq, st_rl_mono (fun x hx => Or.inr hx) (st_Sb_rl hq)⟩
theorem st_dm {a b : Nat} (hb : b < 16) : (a * 16 + b) / 16 = a ∧ (a * 16 + b) % 16 = b := by omega
/-! counts of marks -/
def st_cnt (f : Nat → Bool) : Nat → Nat
  | 0 => 0
  | n + 1 => st_cnt f n + (if f n = true then 1 else 0)
theorem st_cnt_le (f : Nat → Bool) : ∀ n, st_cnt f n ≤ n
  | 0 => Nat.le_refl 0
  | n + 1 => by
    have h := st_cnt_le f n
    unfold st_cnt
    split <;> omega
theorem st_cnt_lt {f : Nat → Bool} {p : Nat} (h : f p = false) : ∀ n, p < n → st_cnt f n < n
  | 0, hp => absurd hp (Nat.not_lt_zero _)
  | n + 1, hp => by
    have h1 := st_cnt_le f n
    unfold st_cnt
    by_cases hn : p = n
    · subst hn
      rw [if_neg (by rw [h]; decide)]
      omega
    · have h2 := st_cnt_lt h n (by omega)
      split <;> omega
theorem st_cnt_out {f : Nat → Bool} {p : Nat} {b : Bool} : ∀ n, n ≤ p → st_cnt (va_up f p b) n = st_cnt f n
  | 0, _ => rfl
  | n + 1, hp => by
    unfold st_cnt
    rw [st_cnt_out n (by omega), st_un (by omega)]
theorem st_cnt_up {f : Nat → Bool} {p : Nat} (h : f p = false) : ∀ n, p < n → st_cnt (va_up f p true) n = st_cnt f n + 1
  | 0, hp => absurd hp (Nat.not_lt_zero _)
  | n + 1, hp => by
    unfold st_cnt
    by_cases hn : p = n
    · subst hn
      rw [st_cnt_out p (Nat.le_refl p), st_us, h]
      rfl
    · rw [st_cnt_up h n (by omega), st_un (by omega)]
      omega
theorem st_cnt_down {f : Nat → Bool} {p : Nat} (h : f p = true) : ∀ n, p < n → st_cnt (va_up f p false) n + 1 = st_cnt f n
  | 0, hp => absurd hp (Nat.not_lt_zero _)
  | n + 1, hp => by
    unfold st_cnt
    by_cases hn : p = n
    · subst hn
      rw [st_cnt_out p (Nat.le_refl p), st_us, h]
      rfl
    · have h1 := st_cnt_down h n (by omega)
      rw [st_un (f := f) (x := false) (show n ≠ p by omega)]
      omega
theorem st_cnt_0 : ∀ n, st_cnt (fun _ => false) n = 0
  | 0 => rfl
  | n + 1 => by
    unfold st_cnt
    rw [st_cnt_0 n]
    rfl
/-! a search: how many are taken, the list, who asked, which are taken -/
abbrev Sr : Type := Nat × (Nat → Nat) × (Nat → Option Nat) × (Nat → Bool)
abbrev S0 : Type := (Nat → Nat) × Sr × Option Nat
abbrev gT (g : Sr) : Nat := g.1
abbrev gL (g : Sr) : Nat → Nat := g.2.1
abbrev gA (g : Sr) : Nat → Option Nat := g.2.2.1
abbrev gU (g : Sr) : Nat → Bool := g.2.2.2
def st_SI (g : Sr) : Prop := gT g = st_cnt (gU g) 256 ∧ (∀ q, gU g q = true → q < 256 ∧ ∃ j, j < gT g ∧ gL g j = q) ∧ ∀ j, j < gT g → gU g (gL g j) = true
def st_Ex (Rq : Nat → Prop) (ak : Option Nat) (g g' : Sr) : Prop := gT g ≤ gT g' ∧ (∀ j, j < gT g → gL g' j = gL g j) ∧ (∀ q, gU g q = true → gU g' q = true ∧ gA g' q = gA g q) ∧ ∀ q, gU g' q = true → gU g q = true ∨ (Rq q ∧ gA g' q = ak)
theorem st_Ex_rf {Rq : Nat → Prop} {ak : Option Nat} {g : Sr} : st_Ex Rq ak g g := ⟨Nat.le_refl _, fun _ _ => rfl, fun _ h => ⟨h, rfl⟩, fun _ h => Or.inl h⟩
theorem st_Ex_tr {R1 R2 R : Nat → Prop} {ak : Option Nat} {g g1 g2 : Sr} (h1 : st_Ex R1 ak g g1) (h2 : st_Ex R2 ak g1 g2) (i1 : ∀ q, R1 q → R q) (i2 : ∀ q, R2 q → R q) : st_Ex R ak g g2 := by
  obtain ⟨a1, a2, a3, a4⟩ := h1
  obtain ⟨b1, b2, b3, b4⟩ := h2
  refine ⟨Nat.le_trans a1 b1, fun j hj => (b2 j (Nat.lt_of_lt_of_le hj a1)).trans (a2 j hj), fun q hq => ⟨(b3 q (a3 q hq).1).1, (b3 q (a3 q hq).1).2.trans (a3 q hq).2⟩, fun q hq => ?_⟩
  rcases b4 q hq with h | ⟨h, h'⟩
  · rcases a4 q h with k | ⟨k, k'⟩
    · exact Or.inl k
    · exact Or.inr ⟨i1 q k, (b3 q h).2.trans k'⟩
  · exact Or.inr ⟨i2 q h, h'⟩
theorem st_Ex_w {R1 R : Nat → Prop} {ak : Option Nat} {g g1 : Sr} (h1 : st_Ex R1 ak g g1) (i1 : ∀ q, R1 q → R q) : st_Ex R ak g g1 := ⟨h1.1, h1.2.1, h1.2.2.1, fun q hq => (h1.2.2.2 q hq).imp_right (fun h => ⟨i1 q h.1, h.2⟩)⟩
theorem st_room {tk : Nat} {li : Nat → Nat} {ab : Nat → Option Nat} {un : Nat → Bool} {p : Nat} (h : st_SI (tk, li, ab, un)) (hp : p < 256) (hu : un p = false) : tk < 256 := by
  have h1 : tk = st_cnt un 256 := h.1
  rw [h1]
  exact st_cnt_lt hu 256 hp
theorem st_ask_new {tk : Nat} {li : Nat → Nat} {ab : Nat → Option Nat} {un : Nat → Bool} {ak : Option Nat} {p : Nat} (h : st_SI (tk, li, ab, un)) (hp : p < 256) (hu : un p = false) :
    st_SI (tk + 1, va_up li tk p, va_up ab p ak, va_up un p true) ∧ st_Ex (fun q => q = p) ak (tk, li, ab, un) (tk + 1, va_up li tk p, va_up ab p ak, va_up un p true) := by
  obtain ⟨h1, h2, h3⟩ := h
  have h1 : tk = st_cnt un 256 := h1
  have h2 : ∀ q, un q = true → q < 256 ∧ ∃ j, j < tk ∧ li j = q := h2
  have h3 : ∀ j, j < tk → un (li j) = true := h3
  have mono : ∀ q, un q = true → va_up un p true q = true := by
    intro q hq
    by_cases e : q = p
    · rw [e]; exact st_us
    · rw [st_un e]; exact hq
  have inv : ∀ q, va_up un p true q = true → q ≠ p → un q = true := by
    intro q hq e
    rw [st_un e] at hq
    exact hq
  refine ⟨⟨?_, ?_, ?_⟩, Nat.le_succ tk, ?_, ?_, ?_⟩
  · show tk + 1 = st_cnt (va_up un p true) 256
    rw [st_cnt_up hu 256 hp, ← h1]
  · intro q hq
    have hq : va_up un p true q = true := hq
    by_cases e : q = p
    · subst e
      exact ⟨hp, tk, Nat.lt_succ_self tk, st_us⟩
    · obtain ⟨a, j, b1, b2⟩ := h2 q (inv q hq e)
      exact ⟨a, j, Nat.lt_succ_of_lt b1, (st_un (Nat.ne_of_lt b1)).trans b2⟩
  · intro j hj
    have hj : j < tk + 1 := hj
    show va_up un p true (va_up li tk p j) = true
    by_cases e : j = tk
    · subst e
      rw [st_us]; exact st_us
    · rw [st_un e]
      exact mono _ (h3 j (by omega))
  · intro j hj
    have hj : j < tk := hj
    exact st_un (Nat.ne_of_lt hj)
  · intro q hq
    have hq : un q = true := hq
    refine ⟨mono q hq, ?_⟩
    show va_up ab p ak q = ab q
    refine st_un (fun e => ?_)
    rw [e, hu] at hq
    cases hq
  · intro q hq
    have hq : va_up un p true q = true := hq
    by_cases e : q = p
    · right
      refine ⟨e, ?_⟩
      show va_up ab p ak q = ak
      rw [e]; exact st_us
    · exact Or.inl (inv q hq e)
def st_Qa (kn : Nat → Nat) (ak : Option Nat) (p : Nat) (g : Sr) (r : Int32) (g' : Sr) : Prop := r = st_p (kn p ≠ 2) ∧ st_SI g' ∧ st_Ex (fun q => q = p) ak g g' ∧ (kn p ≠ 2 → gU g' p = true ∨ kn p = 1)
/-- what every rule for the pair needs -/
def st_nd (T : TT) (s t q : Nat) : Prop := ∀ R : Nat → Prop, st_rl T R s t → R q
def st_Qf (T : TT) (kn : Nat → Nat) (ak : Option Nat) (s t : Nat) (g : Sr) (r : Int32) (g' : Sr) : Prop := st_SI g' ∧ st_Ex (st_nd T s t) ak g g' ∧ ∃ P : Prop, r = st_p P ∧ (P → st_rl T (fun q => gU g' q = true ∨ kn q = 1) s t) ∧ (¬ P → ∀ R : Nat → Prop, (∀ q, kn q = 2 → ¬ R q) → ¬ st_rl T R s t)
def st_KI (T : TT) (kn : Nat → Nat) : Prop := ∀ q, (kn q = 1 → st_Sb T q) ∧ (kn q = 2 → ¬ st_Sb T q) ∧ kn q ≤ 2
theorem st_KI_0 {T : TT} : st_KI T (fun _ => 0) := fun _ => ⟨fun h => absurd (show (0 : Nat) = 1 from h) (by decide), fun h => absurd (show (0 : Nat) = 2 from h) (by decide), Nat.zero_le 2⟩
theorem st_KI_1 {T : TT} {kn : Nat → Nat} {p : Nat} (h : st_KI T kn) (hp : st_Sb T p) : st_KI T (va_up kn p 1) := by
  intro q
  by_cases e : q = p
  · subst e
    rw [st_us]
    exact ⟨fun _ => hp, fun h => absurd h (by decide), by decide⟩
  · rw [st_un e]; exact h q
theorem st_KI_2 {T : TT} {kn : Nat → Nat} {p : Nat} (h : st_KI T kn) (hp : ¬ st_Sb T p) : st_KI T (va_up kn p 2) := by
  intro q
  by_cases e : q = p
  · subst e
    rw [st_us]
    exact ⟨fun h => absurd h (by decide), fun _ => hp, by decide⟩
  · rw [st_un e]; exact h q
/-- who asked: what a taken pair was asked by needs it -/
def st_CH (T : TT) (g : Sr) : Prop := ∀ q, gU g q = true → gA g q = none ∨ ∃ r, gA g q = some r ∧ gU g r = true ∧ (st_Sb T r → st_Sb T q)
def st_IV (T : TT) (kn : Nat → Nat) (p0 : Nat) (g : Sr) (i : Nat) : Prop := st_SI g ∧ gU g p0 = true ∧ (∀ q, gU g q = true → st_Sb T p0 → st_Sb T q) ∧ st_CH T g ∧ i ≤ gT g ∧ ∀ j, j < i → st_rl T (fun q => gU g q = true ∨ kn q = 1) (gL g j / 16) (gL g j % 16)
theorem st_IV_0 {T : TT} {kn : Nat → Nat} {p0 : Nat} {li : Nat → Nat} {ab : Nat → Option Nat} {g : Sr} (h1 : st_SI g) (h2 : st_Ex (fun q => q = p0) none (0, li, ab, fun _ => false) g) (h3 : gU g p0 = true) : st_IV T kn p0 g 0 := by
  have key : ∀ q, gU g q = true → q = p0 ∧ gA g q = none := by
    intro q hq
    rcases h2.2.2.2 q hq with h | h
    · exact absurd (show false = true from h) (by decide)
    · exact h
  refine ⟨h1, h3, fun q hq h => ?_, fun q hq => Or.inl (key q hq).2, Nat.zero_le _, fun j hj => absurd hj (Nat.not_lt_zero _)⟩
  rw [(key q hq).1]; exact h
theorem st_SI_0 {li : Nat → Nat} {ab : Nat → Option Nat} : st_SI (0, li, ab, fun _ => false) := ⟨(st_cnt_0 256).symm, fun q hq => absurd (show false = true from hq) (by decide), fun j hj => absurd (show j < 0 from hj) (Nat.not_lt_zero _)⟩
theorem st_IV_g {T : TT} {kn : Nat → Nat} {p0 i : Nat} {g g' : Sr} (hI : st_IV T kn p0 g i) (hi : i < gT g) (h1 : st_SI g') (h2 : st_Ex (st_nd T (gL g i / 16) (gL g i % 16)) (some (gL g i)) g g') : gU g (gL g i) = true ∧ gU g' p0 = true ∧ (∀ q, gU g' q = true → st_Sb T p0 → st_Sb T q) ∧ st_CH T g' := by
  obtain ⟨a1, a2, a3, a4, a5, a6⟩ := hI
  have hu := a1.2.2 i hi
  refine ⟨hu, (h2.2.2.1 p0 a2).1, fun q hq hs => ?_, fun q hq => ?_⟩
  · rcases h2.2.2.2 q hq with h | h
    · exact a3 q h hs
    · exact h.1 _ (st_Sb_rl (a3 _ hu hs))
  · rcases h2.2.2.2 q hq with h | h
    · rcases a4 q h with k | ⟨r, k1, k2, k3⟩
      · exact Or.inl ((h2.2.2.1 q h).2.trans k)
      · exact Or.inr ⟨r, (h2.2.2.1 q h).2.trans k1, (h2.2.2.1 r k2).1, k3⟩
    · exact Or.inr ⟨_, h.2, (h2.2.2.1 _ hu).1, fun hs => h.1 _ (st_Sb_rl hs)⟩
theorem st_IV_s {T : TT} {kn : Nat → Nat} {p0 i : Nat} {g g' : Sr} (hI : st_IV T kn p0 g i) (hi : i < gT g) (h1 : st_SI g') (h2 : st_Ex (st_nd T (gL g i / 16) (gL g i % 16)) (some (gL g i)) g g') (h3 : st_rl T (fun q => gU g' q = true ∨ kn q = 1) (gL g i / 16) (gL g i % 16)) : st_IV T kn p0 g' (i + 1) := by
  obtain ⟨-, b1, b2, b3⟩ := st_IV_g hI hi h1 h2
  obtain ⟨a1, a2, a3, a4, a5, a6⟩ := hI
  refine ⟨h1, b1, b2, b3, Nat.le_trans hi h2.1, fun j hj => ?_⟩
  rw [h2.2.1 j (by omega)]
  by_cases e : j = i
  · subst e; exact h3
  · exact st_rl_mono (fun q hq => hq.imp_left (fun h => (h2.2.2.1 q h).1)) (a6 j (by omega))
theorem st_IV_f {T : TT} {kn : Nat → Nat} {p0 i : Nat} {g g' : Sr} (hK : st_KI T kn) (hI : st_IV T kn p0 g i) (hi : i < gT g) (h1 : st_SI g') (h2 : st_Ex (st_nd T (gL g i / 16) (gL g i % 16)) (some (gL g i)) g g') (h3 : ∀ R : Nat → Prop, (∀ q, kn q = 2 → ¬ R q) → ¬ st_rl T R (gL g i / 16) (gL g i % 16)) : gL g' i = gL g i ∧ gL g i < 256 ∧ gU g' (gL g i) = true ∧ ¬ st_Sb T (gL g i) ∧ ¬ st_Sb T p0 ∧ st_CH T g' := by
  obtain ⟨hu, b1, b2, b3⟩ := st_IV_g hI hi h1 h2
  have hn : ¬ st_Sb T (gL g i) := fun h => h3 (st_Sb T) (fun q hq => (hK q).2.1 hq) (st_Sb_rl h)
  have hu' := (h2.2.2.1 _ hu).1
  exact ⟨h2.2.1 i hi, (h1.2.1 _ hu').1, hu', hn, fun h => hn (b2 _ hu' h), b3⟩
theorem st_IV_e {T : TT} {kn : Nat → Nat} {p0 i : Nat} {g : Sr} (hK : st_KI T kn) (hI : st_IV T kn p0 g i) (hi : gT g ≤ i) : ∀ q, gU g q = true → st_Sb T q := by
  obtain ⟨a1, a2, a3, a4, a5, a6⟩ := hI
  intro q hq
  refine st_Sb_co (R := fun q => gU g q = true) (fun x hx => ?_) hq
  obtain ⟨h1, j, h2, h3⟩ := a1.2.1 x hx
  refine ⟨h1, ?_⟩
  have h4 := a6 j (Nat.lt_of_lt_of_le h2 hi)
  rw [h3] at h4
  exact st_rl_mono (fun y hy => hy.imp_right (fun h => (hK y).1 h)) h4
/-! masks and counts -/
noncomputable def st_msk (f : Nat → Prop) : Nat → Int32
  | 0 => nI 0
  | n + 1 => @ite Int32 (f n) (Classical.propDecidable (f n)) (st_msk f n ||| (nI 1 <<< (nI n &&& 31))) (st_msk f n)
theorem st_msk_t {f : Nat → Prop} {n : Nat} (h : f n) : st_msk f (n + 1) = st_msk f n ||| (nI 1 <<< (nI n &&& 31)) := @if_pos (f n) (Classical.propDecidable (f n)) h Int32 _ _
theorem st_msk_f {f : Nat → Prop} {n : Nat} (h : ¬ f n) : st_msk f (n + 1) = st_msk f n := @if_neg (f n) (Classical.propDecidable (f n)) h Int32 _ _
noncomputable def st_cn (f : Nat → Prop) : Nat → Nat
  | 0 => 0
  | n + 1 => st_cn f n + @ite Nat (f n) (Classical.propDecidable (f n)) 1 0
theorem st_cn_t {f : Nat → Prop} {n : Nat} (h : f n) : st_cn f (n + 1) = st_cn f n + 1 := by
  show st_cn f n + @ite Nat (f n) (Classical.propDecidable (f n)) 1 0 = _
  rw [@if_pos (f n) (Classical.propDecidable (f n)) h Nat 1 0]
theorem st_cn_f {f : Nat → Prop} {n : Nat} (h : ¬ f n) : st_cn f (n + 1) = st_cn f n := by
  show st_cn f n + @ite Nat (f n) (Classical.propDecidable (f n)) 1 0 = _
  rw [@if_neg (f n) (Classical.propDecidable (f n)) h Nat 1 0, Nat.add_zero]
theorem st_cn_0 {f : Nat → Prop} : ∀ n, (∀ j, j < n → ¬ f j) → st_cn f n = 0
  | 0, _ => rfl
  | n + 1, h => by
    rw [st_cn_f (h n (Nat.lt_succ_self n))]
    exact st_cn_0 n (fun j hj => h j (Nat.lt_succ_of_lt hj))
def st_sum (g : Nat → Nat) : Nat → Nat
  | 0 => 0
  | n + 1 => st_sum g n + g n
theorem st_dbl1 (f : Nat → Nat → Prop) (n : Nat) : ∀ m, m ≤ n → st_sum (fun s => st_cn (fun t => s < t ∧ f s t) (n + 1)) m = st_sum (fun s => st_cn (fun t => s < t ∧ f s t) n) m + st_cn (fun s => f s n) m
  | 0, _ => rfl
  | m + 1, h => by
    have ih := st_dbl1 f n m (by omega)
    show st_sum (fun s => st_cn (fun t => s < t ∧ f s t) (n + 1)) m + st_cn (fun t => m < t ∧ f m t) (n + 1) = (st_sum (fun s => st_cn (fun t => s < t ∧ f s t) n) m + st_cn (fun t => m < t ∧ f m t) n) + st_cn (fun s => f s n) (m + 1)
    rw [ih]
    rcases Classical.em (f m n) with h1 | h1
    · rw [st_cn_t (f := fun t => m < t ∧ f m t) ⟨by omega, h1⟩, st_cn_t (f := fun s => f s n) h1]
      omega
    · rw [st_cn_f (f := fun t => m < t ∧ f m t) (fun q => h1 q.2), st_cn_f (f := fun s => f s n) h1]
      omega
theorem st_dbl (f : Nat → Nat → Prop) : ∀ n, st_sum (fun s => st_cn (fun t => s < t ∧ f s t) n) n = st_sum (fun t => st_cn (fun s => f s t) t) n
  | 0 => rfl
  | n + 1 => by
    have ih := st_dbl f n
    show st_sum (fun s => st_cn (fun t => s < t ∧ f s t) (n + 1)) n + st_cn (fun t => n < t ∧ f n t) (n + 1) = st_sum (fun t => st_cn (fun s => f s t) t) n + st_cn (fun s => f s n) n
    rw [st_dbl1 f n n (Nat.le_refl n), ih, st_cn_0 (n + 1) (fun j hj q => absurd q.1 (by omega))]
    omega
/-! what the questions answer -/
def st_eq (T : TT) (s t : Nat) : Prop := st_Sb T (s * 16 + t) ∧ st_Sb T (t * 16 + s)
def st_ur (T : TT) (s t : Nat) : Prop := ¬ st_Sb T (s * 16 + t) ∧ ¬ st_Sb T (t * 16 + s)
def st_nw (T : TT) (t n : Nat) : Prop := ∀ s, s < n → ¬ st_eq T s t
theorem st_nw_t {T : TT} {t n : Nat} (h : st_eq T n t) : ¬ st_nw T t (n + 1) := fun q => q n (Nat.lt_succ_self n) h
theorem st_nw_f {T : TT} {t n : Nat} (h : ¬ st_eq T n t) : st_nw T t (n + 1) ↔ st_nw T t n := by
  refine ⟨fun q s hs => q s (Nat.lt_succ_of_lt hs), fun q s hs => ?_⟩
  by_cases e : s = n
  · rw [e]; exact h
  · exact q s (by omega)
/-! arguments -/
def st_ty (x : Int32) : Option Nat := if x < 0 ∨ 16 ≤ x then none else some x.toNatClampNeg
def st_lb (x : Int32) : Option Nat := if x < 0 ∨ 4 ≤ x then none else some x.toNatClampNeg
def st_sc (x : Int32) : Option Nat := if x < 0 ∨ 5 < x ∨ x = 4 then none else some x.toNatClampNeg
theorem st_ty_n {a : Nat} (h : a < 16) : st_ty (nI a) = some a := by
  unfold st_ty
  rw [if_neg, nI_clamp (by omega)]
  rintro (h1 | h1)
  · exact nI_pos (by omega) h1
  · exact nI_ge h (by decide) h1
theorem st_lb_n {a : Nat} (h : a < 4) : st_lb (nI a) = some a := by
  unfold st_lb
  rw [if_neg, nI_clamp (by omega)]
  rintro (h1 | h1)
  · exact nI_pos (by omega) h1
  · exact nI_ge h (by decide) h1
theorem st_sc_n {a : Nat} (h : a < 6) (h4 : a ≠ 4) : st_sc (nI a) = some a := by
  unfold st_sc
  rw [if_neg, nI_clamp (by omega)]
  rintro (h1 | h1 | h1)
  · exact nI_pos (by omega) h1
  · exact nI_nlt (a := 5) (b := a) (by omega) (by decide) h1
  · exact h4 ((nI_eq (by omega) (by decide)).mp (show nI a = nI 4 from h1))
theorem st_ty_b {x : Int32} (h : x < 0 ∨ 16 ≤ x) : st_ty x = none := if_pos h
theorem st_lb_b {x : Int32} (h : x < 0 ∨ 4 ≤ x) : st_lb x = none := if_pos h
theorem st_sc_b {x : Int32} (h : x < 0 ∨ 5 < x ∨ x = 4) : st_sc x = none := if_pos h
theorem st_ty_s {x : Int32} (h : ¬ st_ty x = none) : ∃ a, a < 16 ∧ x = nI a := by
  rcases pk_ix x (n := 16) (by decide) with h1 | h1 | h1
  · exact absurd (st_ty_b (Or.inl h1)) h
  · exact absurd (st_ty_b (Or.inr h1)) h
  · exact h1
theorem st_lb_s {x : Int32} (h1 : ¬ x < 0) (h2 : ¬ 4 ≤ x) : ∃ a, a < 4 ∧ x = nI a := by
  rcases pk_ix x (n := 4) (by decide) with h | h | h
  · exact absurd h h1
  · exact absurd h h2
  · exact h
theorem st_sc_s {x : Int32} (h1 : ¬ x < 0) (h2 : ¬ 5 < x) (h4 : ¬ x = 4) : ∃ a, a < 6 ∧ a ≠ 4 ∧ x = nI a := by
  rcases pk_ix x (n := 6) (by decide) with h | h | ⟨a, h, e⟩
  · exact absurd h h1
  · exact absurd (Int32.lt_of_lt_of_le (show (5 : Int32) < nI 6 by decide) h) h2
  · exact ⟨a, h, fun q => h4 (by rw [e, q]; rfl), e⟩
end
section
/-! the worlds of the two classes -/
set_option maxRecDepth 100000
abbrev ty0 (k : Nat → ClassId) : List (ClassId × FieldType) := [(k 0, .int), (k 1, .boolean), (k 2, .byte)]
abbrev ty1 (k : Nat → ClassId) : List (ClassId × FieldType) := [(k 0, .int), (k 1, .boolean)]
abbrev S1 : Type := Bool × (Nat → Bool)
def w0 (h : Nat) (ad : Nat → Nat) (k : Nat → ClassId) (T : TT) (u : S0) : va_W :=
  [(h, .inr (0, [.ref (ad 0), .ref (ad 1), .ref (ad 2), .ref (ad 3), .ref (ad 4), .ref (ad 5), .int (nI u.2.1.1), .ref (ad 6), .ref (ad 7), .ref (ad 8), .int (st_o u.2.2)])),
   (ad 0, .inl (k 0, 16, .inl (fun j => nI (tS T j)))),
   (ad 1, .inl (k 0, 16, .inl (fun j => nI (tA T j)))),
   (ad 2, .inl (k 0, 16, .inl (fun j => nI (tR T j)))),
   (ad 3, .inl (k 0, 64, .inl (fun j => st_o (tF T j)))),
   (ad 4, .inl (k 1, 64, .inl (fun j => st_b (tO T j)))),
   (ad 5, .inl (k 2, 256, .inl (fun j => nI (u.1 j)))),
   (ad 6, .inl (k 0, 256, .inl (fun j => nI (u.2.1.2.1 j)))),
   (ad 7, .inl (k 0, 256, .inl (fun j => st_o (u.2.1.2.2.1 j)))),
   (ad 8, .inl (k 1, 256, .inl (fun j => st_b (u.2.1.2.2.2 j))))]
def w1 (h : Nat) (ad : Nat → Nat) (k : Nat → ClassId) (T : TT) (u : S1) : va_W :=
  [(h, .inr (1, [.ref (ad 0), .ref (ad 1), .ref (ad 2), .ref (ad 3), .ref (ad 4), .int (st_b u.1), .ref (ad 5)])),
   (ad 0, .inl (k 0, 16, .inl (fun j => nI (tS T j)))),
   (ad 1, .inl (k 0, 16, .inl (fun j => nI (tA T j)))),
   (ad 2, .inl (k 0, 16, .inl (fun j => nI (tR T j)))),
   (ad 3, .inl (k 0, 64, .inl (fun j => st_o (tF T j)))),
   (ad 4, .inl (k 1, 64, .inl (fun j => st_b (tO T j)))),
   (ad 5, .inl (k 1, 256, .inl (fun j => st_b (u.2 j))))]
theorem st_nb (b : Bool) : vp_nar .boolean (st_b b) = st_b b := by cases b <;> decide
theorem st_ny0 : vp_nar .byte (nI 0) = nI 0 := by decide
theorem st_ny1 : vp_nar .byte (nI 1) = nI 1 := by decide
theorem st_ny2 : vp_nar .byte (nI 2) = nI 2 := by decide
/-- filled from the left -/
def st_fl {α : Type} (v : α) (f : Nat → α) (i : Nat) : Nat → α := fun j => if j < i then v else f j
theorem st_fl_s {α : Type} (enc : α → Int32) {v : α} {f : Nat → α} {i : Nat} (j : Nat) : (if j = i then enc v else enc (st_fl v f i j)) = enc (st_fl v f (i + 1) j) := by
  unfold st_fl
  by_cases h : j = i
  · subst h
    rw [if_pos rfl, if_pos (Nat.lt_succ_self j)]
  · rw [if_neg h]
    by_cases h2 : j < i
    · rw [if_pos h2, if_pos (by omega)]
    · rw [if_neg h2, if_neg (by omega)]
theorem st_fl_0 {α : Type} (v : α) (f : Nat → α) : st_fl v f 0 = f := by
  funext j
  exact if_neg (Nat.not_lt_zero j)
theorem st_fl_e {α : Type} {v : α} {f : Nat → α} {n j : Nat} (h : j < n) : st_fl v f n j = v := if_pos h
/-- four of a row set to v from a * 4 on: the first i of them -/
def st_cl {α : Type} (v : α) (f : Nat → α) (a i : Nat) : Nat → α := fun j => if a * 4 ≤ j ∧ j < a * 4 + i then v else f j
theorem st_cl_s {α : Type} (enc : α → Int32) {v : α} {f : Nat → α} {a i : Nat} (j : Nat) : (if j = a * 4 + i then enc v else enc (st_cl v f a i j)) = enc (st_cl v f a (i + 1) j) := by
  unfold st_cl
  by_cases h : j = a * 4 + i
  · subst h
    rw [if_pos rfl, if_pos ⟨by omega, by omega⟩]
  · rw [if_neg h]
    by_cases h2 : a * 4 ≤ j ∧ j < a * 4 + i
    · rw [if_pos h2, if_pos ⟨h2.1, by omega⟩]
    · rw [if_neg h2, if_neg (fun q => h2 ⟨q.1, by omega⟩)]
theorem st_cl_0 {α : Type} (v : α) (f : Nat → α) (a : Nat) : st_cl v f a 0 = f := by
  funext j
  exact if_neg (fun q => by omega)
theorem st_cl_in {α : Type} {v : α} {f : Nat → α} {a l : Nat} (h : l < 4) : st_cl v f a 4 (a * 4 + l) = v := if_pos ⟨by omega, by omega⟩
theorem st_cl_out {α : Type} {v : α} {f : Nat → α} {a b l : Nat} (h : l < 4) (hab : b ≠ a) : st_cl v f a 4 (b * 4 + l) = f (b * 4 + l) := if_neg (fun q => by omega)
theorem hdX0_shape : yX0_shape.cls = RX0 ∧ yX0_shape.cls ≠ "java/lang/invoke/MethodHandle" ∧ yX0_shape.cls ≠ "java/lang/invoke/VarHandle" ∧ (parseMethodDescriptor yX0_shape.desc).map (fun d => d.parameters.length) = some 2 := by decide +kernel
theorem hdX0_bad : yX0_bad.cls ≠ "java/lang/invoke/MethodHandle" ∧ yX0_bad.cls ≠ "java/lang/invoke/VarHandle" ∧ (parseMethodDescriptor yX0_bad.desc).map (fun d => d.parameters.length) = some 1 := by decide +kernel
theorem hdX0_become : yX0_become.cls = RX0 ∧ yX0_become.cls ≠ "java/lang/invoke/MethodHandle" ∧ yX0_become.cls ≠ "java/lang/invoke/VarHandle" ∧ (parseMethodDescriptor yX0_become.desc).map (fun d => d.parameters.length) = some 2 := by decide +kernel
theorem hdX0_forgetAll : yX0_forgetAll.cls = RX0 ∧ yX0_forgetAll.cls ≠ "java/lang/invoke/MethodHandle" ∧ yX0_forgetAll.cls ≠ "java/lang/invoke/VarHandle" ∧ (parseMethodDescriptor yX0_forgetAll.desc).map (fun d => d.parameters.length) = some 0 := by decide +kernel
theorem hdX0_fun : yX0_fun.cls = RX0 ∧ yX0_fun.cls ≠ "java/lang/invoke/MethodHandle" ∧ yX0_fun.cls ≠ "java/lang/invoke/VarHandle" ∧ (parseMethodDescriptor yX0_fun.desc).map (fun d => d.parameters.length) = some 3 := by decide +kernel
theorem hdX0_field : yX0_field.cls = RX0 ∧ yX0_field.cls ≠ "java/lang/invoke/MethodHandle" ∧ yX0_field.cls ≠ "java/lang/invoke/VarHandle" ∧ (parseMethodDescriptor yX0_field.desc).map (fun d => d.parameters.length) = some 4 := by decide +kernel
theorem hdX0_dropField : yX0_dropField.cls = RX0 ∧ yX0_dropField.cls ≠ "java/lang/invoke/MethodHandle" ∧ yX0_dropField.cls ≠ "java/lang/invoke/VarHandle" ∧ (parseMethodDescriptor yX0_dropField.desc).map (fun d => d.parameters.length) = some 2 := by decide +kernel
theorem hdX0_subtype : yX0_subtype.cls = RX0 ∧ yX0_subtype.cls ≠ "java/lang/invoke/MethodHandle" ∧ yX0_subtype.cls ≠ "java/lang/invoke/VarHandle" ∧ (parseMethodDescriptor yX0_subtype.desc).map (fun d => d.parameters.length) = some 2 := by decide +kernel
theorem hdX0_isSubtype : yX0_isSubtype.cls = RX0 ∧ yX0_isSubtype.cls ≠ "java/lang/invoke/MethodHandle" ∧ yX0_isSubtype.cls ≠ "java/lang/invoke/VarHandle" ∧ (parseMethodDescriptor yX0_isSubtype.desc).map (fun d => d.parameters.length) = some 2 := by decide +kernel
theorem hdX0_decide : yX0_decide.cls = RX0 ∧ yX0_decide.cls ≠ "java/lang/invoke/MethodHandle" ∧ yX0_decide.cls ≠ "java/lang/invoke/VarHandle" ∧ (parseMethodDescriptor yX0_decide.desc).map (fun d => d.parameters.length) = some 2 := by decide +kernel
theorem hdX0_ask : yX0_ask.cls = RX0 ∧ yX0_ask.cls ≠ "java/lang/invoke/MethodHandle" ∧ yX0_ask.cls ≠ "java/lang/invoke/VarHandle" ∧ (parseMethodDescriptor yX0_ask.desc).map (fun d => d.parameters.length) = some 2 := by decide +kernel
theorem hdX0_follow : yX0_follow.cls = RX0 ∧ yX0_follow.cls ≠ "java/lang/invoke/MethodHandle" ∧ yX0_follow.cls ≠ "java/lang/invoke/VarHandle" ∧ (parseMethodDescriptor yX0_follow.desc).map (fun d => d.parameters.length) = some 2 := by decide +kernel
theorem hdX0_followFields : yX0_followFields.cls = RX0 ∧ yX0_followFields.cls ≠ "java/lang/invoke/MethodHandle" ∧ yX0_followFields.cls ≠ "java/lang/invoke/VarHandle" ∧ (parseMethodDescriptor yX0_followFields.desc).map (fun d => d.parameters.length) = some 2 := by decide +kernel
theorem hdX0_refute : yX0_refute.cls = RX0 ∧ yX0_refute.cls ≠ "java/lang/invoke/MethodHandle" ∧ yX0_refute.cls ≠ "java/lang/invoke/VarHandle" ∧ (parseMethodDescriptor yX0_refute.desc).map (fun d => d.parameters.length) = some 1 := by decide +kernel
theorem hdX0_equivalent : yX0_equivalent.cls = RX0 ∧ yX0_equivalent.cls ≠ "java/lang/invoke/MethodHandle" ∧ yX0_equivalent.cls ≠ "java/lang/invoke/VarHandle" ∧ (parseMethodDescriptor yX0_equivalent.desc).map (fun d => d.parameters.length) = some 2 := by decide +kernel
theorem hdX0_both : yX0_both.cls = RX0 ∧ yX0_both.cls ≠ "java/lang/invoke/MethodHandle" ∧ yX0_both.cls ≠ "java/lang/invoke/VarHandle" ∧ (parseMethodDescriptor yX0_both.desc).map (fun d => d.parameters.length) = some 2 := by decide +kernel
theorem hdX0_subtypes : yX0_subtypes.cls = RX0 ∧ yX0_subtypes.cls ≠ "java/lang/invoke/MethodHandle" ∧ yX0_subtypes.cls ≠ "java/lang/invoke/VarHandle" ∧ (parseMethodDescriptor yX0_subtypes.desc).map (fun d => d.parameters.length) = some 1 := by decide +kernel
theorem hdX0_kinds : yX0_kinds.cls = RX0 ∧ yX0_kinds.cls ≠ "java/lang/invoke/MethodHandle" ∧ yX0_kinds.cls ≠ "java/lang/invoke/VarHandle" ∧ (parseMethodDescriptor yX0_kinds.desc).map (fun d => d.parameters.length) = some 0 := by decide +kernel
theorem hdX0_unrelated : yX0_unrelated.cls = RX0 ∧ yX0_unrelated.cls ≠ "java/lang/invoke/MethodHandle" ∧ yX0_unrelated.cls ≠ "java/lang/invoke/VarHandle" ∧ (parseMethodDescriptor yX0_unrelated.desc).map (fun d => d.parameters.length) = some 0 := by decide +kernel
theorem hdX0_shapeOf : yX0_shapeOf.cls = RX0 ∧ yX0_shapeOf.cls ≠ "java/lang/invoke/MethodHandle" ∧ yX0_shapeOf.cls ≠ "java/lang/invoke/VarHandle" ∧ (parseMethodDescriptor yX0_shapeOf.desc).map (fun d => d.parameters.length) = some 1 := by decide +kernel
theorem hdX1_shape : yX1_shape.cls = RX1 ∧ yX1_shape.cls ≠ "java/lang/invoke/MethodHandle" ∧ yX1_shape.cls ≠ "java/lang/invoke/VarHandle" ∧ (parseMethodDescriptor yX1_shape.desc).map (fun d => d.parameters.length) = some 2 := by decide +kernel
theorem hdX1_bad : yX1_bad.cls = RX1 ∧ yX1_bad.cls ≠ "java/lang/invoke/MethodHandle" ∧ yX1_bad.cls ≠ "java/lang/invoke/VarHandle" ∧ (parseMethodDescriptor yX1_bad.desc).map (fun d => d.parameters.length) = some 1 := by decide +kernel
theorem hdX1_fun : yX1_fun.cls = RX1 ∧ yX1_fun.cls ≠ "java/lang/invoke/MethodHandle" ∧ yX1_fun.cls ≠ "java/lang/invoke/VarHandle" ∧ (parseMethodDescriptor yX1_fun.desc).map (fun d => d.parameters.length) = some 3 := by decide +kernel
theorem hdX1_field : yX1_field.cls = RX1 ∧ yX1_field.cls ≠ "java/lang/invoke/MethodHandle" ∧ yX1_field.cls ≠ "java/lang/invoke/VarHandle" ∧ (parseMethodDescriptor yX1_field.desc).map (fun d => d.parameters.length) = some 4 := by decide +kernel
theorem hdX1_refusal : yX1_refusal.cls = RX1 ∧ yX1_refusal.cls ≠ "java/lang/invoke/MethodHandle" ∧ yX1_refusal.cls ≠ "java/lang/invoke/VarHandle" ∧ (parseMethodDescriptor yX1_refusal.desc).map (fun d => d.parameters.length) = some 2 := by decide +kernel
theorem hdX1_setField : yX1_setField.cls = RX1 ∧ yX1_setField.cls ≠ "java/lang/invoke/MethodHandle" ∧ yX1_setField.cls ≠ "java/lang/invoke/VarHandle" ∧ (parseMethodDescriptor yX1_setField.desc).map (fun d => d.parameters.length) = some 3 := by decide +kernel
theorem hdX1_dropField : yX1_dropField.cls = RX1 ∧ yX1_dropField.cls ≠ "java/lang/invoke/MethodHandle" ∧ yX1_dropField.cls ≠ "java/lang/invoke/VarHandle" ∧ (parseMethodDescriptor yX1_dropField.desc).map (fun d => d.parameters.length) = some 2 := by decide +kernel
theorem hdX1_subtype : yX1_subtype.cls = RX1 ∧ yX1_subtype.cls ≠ "java/lang/invoke/MethodHandle" ∧ yX1_subtype.cls ≠ "java/lang/invoke/VarHandle" ∧ (parseMethodDescriptor yX1_subtype.desc).map (fun d => d.parameters.length) = some 2 := by decide +kernel
theorem hdX1_strike : yX1_strike.cls = RX1 ∧ yX1_strike.cls ≠ "java/lang/invoke/MethodHandle" ∧ yX1_strike.cls ≠ "java/lang/invoke/VarHandle" ∧ (parseMethodDescriptor yX1_strike.desc).map (fun d => d.parameters.length) = some 0 := by decide +kernel
theorem hdX1_holds : yX1_holds.cls = RX1 ∧ yX1_holds.cls ≠ "java/lang/invoke/MethodHandle" ∧ yX1_holds.cls ≠ "java/lang/invoke/VarHandle" ∧ (parseMethodDescriptor yX1_holds.desc).map (fun d => d.parameters.length) = some 2 := by decide +kernel
theorem hdX1_fieldOk : yX1_fieldOk.cls = RX1 ∧ yX1_fieldOk.cls ≠ "java/lang/invoke/MethodHandle" ∧ yX1_fieldOk.cls ≠ "java/lang/invoke/VarHandle" ∧ (parseMethodDescriptor yX1_fieldOk.desc).map (fun d => d.parameters.length) = some 2 := by decide +kernel
theorem hdX1_equivalent : yX1_equivalent.cls = RX1 ∧ yX1_equivalent.cls ≠ "java/lang/invoke/MethodHandle" ∧ yX1_equivalent.cls ≠ "java/lang/invoke/VarHandle" ∧ (parseMethodDescriptor yX1_equivalent.desc).map (fun d => d.parameters.length) = some 2 := by decide +kernel
theorem hdX1_subtypes : yX1_subtypes.cls = RX1 ∧ yX1_subtypes.cls ≠ "java/lang/invoke/MethodHandle" ∧ yX1_subtypes.cls ≠ "java/lang/invoke/VarHandle" ∧ (parseMethodDescriptor yX1_subtypes.desc).map (fun d => d.parameters.length) = some 1 := by decide +kernel
theorem hdX1_kinds : yX1_kinds.cls = RX1 ∧ yX1_kinds.cls ≠ "java/lang/invoke/MethodHandle" ∧ yX1_kinds.cls ≠ "java/lang/invoke/VarHandle" ∧ (parseMethodDescriptor yX1_kinds.desc).map (fun d => d.parameters.length) = some 0 := by decide +kernel
theorem hdX1_unrelated : yX1_unrelated.cls = RX1 ∧ yX1_unrelated.cls ≠ "java/lang/invoke/MethodHandle" ∧ yX1_unrelated.cls ≠ "java/lang/invoke/VarHandle" ∧ (parseMethodDescriptor yX1_unrelated.desc).map (fun d => d.parameters.length) = some 0 := by decide +kernel
theorem hdX1_shapeOf : yX1_shapeOf.cls = RX1 ∧ yX1_shapeOf.cls ≠ "java/lang/invoke/MethodHandle" ∧ yX1_shapeOf.cls ≠ "java/lang/invoke/VarHandle" ∧ (parseMethodDescriptor yX1_shapeOf.desc).map (fun d => d.parameters.length) = some 1 := by decide +kernel
end
section
/-! StructuralTypes: leaves -/
theorem st_ty_g {x : Int32} (h1 : ¬ x < 0) (h2 : ¬ 16 ≤ x) : ¬ st_ty x = none := by
  unfold st_ty
  rw [if_neg (fun q => q.elim h1 h2)]
  exact fun q => by cases q
set_option maxHeartbeats 4000000 in
set_option maxRecDepth 100000 in
/-- bad(x) -/
theorem mX0_bad (l : Launch) (D : va_G) (A : Nat → Prop) (wd : va_W) (tys : List (ClassId × FieldType)) (x : Int32) : Met l yX0_bad (ws_ yX0_bad cX0_bad 1 (some .boolean)) ({ frames := 0, cells := 0, slots := 0, locals := 0 }) (va_Pc [.int (x)] (st_I D A wd tys)) (va_Qi (fun (r : Int32) (u : Unit) => r = st_p (st_ty x = none)) (fun u t => st_I D A wd tys t) A) 0 0 A := by
  refine st_start (by decide) (Nat.le_of_ble_eq_true rfl) (fun p e s m below meth c E hr hlk hw ls hl => ?_)
  have hx := E.1
  have hb := E.2.1
  have hl : lv_has ls 1 [(0, .int (x))] := hl
  refine lv_iload_n hx hb dX0_bad_0 rfl (lv_at hl 0 rfl) ?_
  refine lv_if_lt (tgt := 10) hx hb dX0_bad_1 (by decide) (fun hc => ?_) (fun hc => ?_)
  · refine lv_iconst (v := nI 1) hx hb dX0_bad_10 (by decide) ?_
    refine lv_goto (tgt := 15) hx hb dX0_bad_11 (by decide) ?_
    exact st_rz E hr hlk () hw rfl (st_p1 (st_ty_b (Or.inl hc))).symm dX0_bad_15
  · refine lv_iload_n hx hb dX0_bad_4 rfl (lv_at hl 0 rfl) ?_
    refine lv_bipush (v := nI 16) hx hb dX0_bad_5 (by decide) ?_
    refine lv_icmp_lt (tgt := 14) hx hb dX0_bad_7 (by decide) (fun hd => ?_) (fun hd => ?_)
    · refine lv_iconst (v := nI 0) hx hb dX0_bad_14 (by decide) ?_
      exact st_rz E hr hlk () hw rfl (st_p0 (st_ty_g hc (Int32.not_le.mpr hd))).symm dX0_bad_15
    · refine lv_iconst (v := nI 1) hx hb dX0_bad_10 (by decide) ?_
      refine lv_goto (tgt := 15) hx hb dX0_bad_11 (by decide) ?_
      exact st_rz E hr hlk () hw rfl (st_p1 (st_ty_b (Or.inr (Int32.not_lt.mp hd)))).symm dX0_bad_15
set_option maxHeartbeats 4000000 in
set_option maxRecDepth 100000 in
/-- forgetAll() -/
theorem mX0_forgetAll (l : Launch) (D : va_G) (A : Nat → Prop) (h : Nat) (ad : Nat → Nat) (k : Nat → ClassId) (T : TT) (kn : Nat → Nat) (g : Sr) (ak : Option Nat) : Met l yX0_forgetAll (ws_ yX0_forgetAll cX0_forgetAll 2 none) ({ frames := 0, cells := 0, slots := 0, locals := 0 }) (va_Pc [.ref h] (st_I D A (w0 h ad k T (kn, g, ak)) (ty0 k))) (va_Qv (fun (u : Unit) => True) (fun u t => st_I D A (w0 h ad k T (fun _ => 0, g, ak)) (ty0 k) t) A) 0 0 A := by
  refine st_start (by decide) (Nat.le_of_ble_eq_true rfl) (fun p e s m below meth c E hr hlk hw ls hl => ?_)
  have hx := E.1
  have hb := E.2.1
  have E : st_E p s m c cX0_forgetAll 2 _ RX0 D (ty0 k) := E
  have hl : lv_has ls 2 [(0, .ref h)] := hl
  refine lv_iconst (v := nI 0) hx hb dX0_forgetAll_0 (by decide) ?_
  refine lv_istore_n (lv' := [(1, .int (nI 0)), (0, .ref h)]) hx hb dX0_forgetAll_1 rfl hl (by decide) rfl (fun ls hl => ?_)
  have hw : st_W D A s.heap (w0 h ad k T (st_fl 0 kn 0, g, ak)) s.heap [] := by rw [st_fl_0]; exact hw
  refine st_loop (σ := Nat) (fun x H locs ls => st_W D A s.heap (w0 h ad k T (st_fl 0 kn x, g, ak)) H locs ∧ lv_has ls 2 [(0, .ref h), (1, .int (nI x))] ∧ x ≤ 256) (fun x => 257 - x) (fun i H locs ls hJ ih => ?_) 0 ⟨hw, lv_sub hl [1, 0] rfl, by omega⟩
  have hw : st_W D A s.heap (w0 h ad k T (st_fl 0 kn i, g, ak)) H locs := hJ.1
  have hl : lv_has ls 2 [(0, .ref h), (1, .int (nI i))] := hJ.2.1
  have hI : i ≤ 256 := hJ.2.2
  clear hJ
  refine lv_iload_n hx hb dX0_forgetAll_2 rfl (lv_at hl 1 rfl) ?_
  refine lv_sipush (v := nI 256) hx hb dX0_forgetAll_3 (by decide) ?_
  refine st_icge (tgt := 22) hx hb dX0_forgetAll_6 (by decide) (by omega) (by omega) (fun hc => ?_) (fun hc => ?_)
  · have hw := hw.norm 6 rfl (fun j => nI ((fun _ => 0 : Nat → Nat) j)) (fun j hj => by show nI (st_fl 0 kn i j) = nI 0; rw [st_fl_e (by omega)])
    have hw : st_W D A s.heap (w0 h ad k T (fun _ => 0, g, ak)) H locs := hw
    exact st_rv E hr hlk () hw trivial dX0_forgetAll_22
  · refine lv_aload_n hx hb dX0_forgetAll_9 rfl (lv_at hl 0 rfl) ?_
    refine st_get0 E hw rfl 5 (by decide) q31 (v := .ref (ad 5)) rfl dX0_forgetAll_10 ?_
    refine lv_iload_n hx hb dX0_forgetAll_13 rfl (lv_at hl 1 rfl) ?_
    refine lv_iconst (v := nI 0) hx hb dX0_forgetAll_14 (by decide) ?_
    refine st_bast E hw 6 2 rfl rfl (i := i) (by omega) (by decide) (nI 0) (st_ny0) (fun j => nI ((st_fl 0 kn (i + 1)) j)) (fun j => st_fl_s nI j) dX0_forgetAll_15 (fun H locs (hw : st_W D A s.heap (w0 h ad k T (st_fl 0 kn (i + 1), g, ak)) H locs) => ?_)
    refine lv_iinc (v := nI (i + 1)) (lv' := [(1, .int (nI (i + 1))), (0, .ref h)]) hx hb dX0_forgetAll_16 hl (k := 1) rfl (st_inc _) (by decide) rfl (fun ls hl => ?_)
    refine lv_goto (tgt := 2) hx hb dX0_forgetAll_19 (by decide) ?_
    exact ih (i + 1) _ _ _ ⟨hw, lv_sub hl [1, 0] rfl, by omega⟩ (by show 257 - (i + 1) < 257 - i; omega)
set_option maxHeartbeats 4000000 in
set_option maxRecDepth 100000 in
/-- become(type, shape) -/
theorem mX0_become (l : Launch) (D : va_G) (A : Nat → Prop) (h : Nat) (ad : Nat → Nat) (k : Nat → ClassId) (T : TT) (kn : Nat → Nat) (g : Sr) (ak : Option Nat) (a b : Nat) (h_a : a < 16) : Met l yX0_become (ws_ yX0_become cX0_become 5 (some .int)) ({ frames := 1, cells := 0, slots := 0, locals := 21 }) (va_Pc [.ref h, .int (nI a), .int (nI b)] (st_I D A (w0 h ad k T (kn, g, ak)) (ty0 k))) (va_Qi (fun (r : Int32) (u : Unit) => r = nI (tS T a)) (fun u t => st_I D A (w0 h ad k (va_up (tS T) a b, tA T, tR T, st_cl none (tF T) a 4, st_cl false (tO T) a 4) (fun _ => 0, g, ak)) (ty0 k) t) A) 0 0 A := by
  refine st_start (by decide) (Nat.le_of_ble_eq_true rfl) (fun p e s m below meth c E hr hlk hw ls hl => ?_)
  have hx := E.1
  have hb := E.2.1
  have E : st_E p s m c cX0_become 5 _ RX0 D (ty0 k) := E
  have hl : lv_has ls 5 [(0, .ref h), (1, .int (nI a)), (2, .int (nI b))] := hl
  refine lv_aload_n hx hb dX0_become_0 rfl (lv_at hl 0 rfl) ?_
  refine st_get0 E hw rfl 0 (by decide) q26 (v := .ref (ad 0)) rfl dX0_become_1 ?_
  refine lv_iload_n hx hb dX0_become_4 rfl (lv_at hl 1 rfl) ?_
  refine st_iald E hw 1 0 rfl rfl (i := a) (by omega) (by decide) (v := nI ((tS T) a)) rfl dX0_become_5 ?_
  refine lv_istore_n (lv' := [(3, .int (nI ((tS T) a))), (0, .ref h), (1, .int (nI a)), (2, .int (nI b))]) hx hb dX0_become_6 rfl hl (by decide) rfl (fun ls hl => ?_)
  refine lv_aload_n hx hb dX0_become_7 rfl (lv_at hl 1 rfl) ?_
  refine st_get0 E hw rfl 0 (by decide) q26 (v := .ref (ad 0)) rfl dX0_become_8 ?_
  refine lv_iload_n hx hb dX0_become_11 rfl (lv_at hl 2 rfl) ?_
  refine lv_iload_n hx hb dX0_become_12 rfl (lv_at hl 3 rfl) ?_
  refine st_iast E hw 1 0 rfl rfl (i := a) (by omega) (by decide) (fun j => nI ((va_up (tS T) a b) j)) (fun j => st_up nI _ _ b j) dX0_become_13 (fun H locs (hw : st_W D A s.heap (w0 h ad k (va_up (tS T) a b, tA T, tR T, tF T, tO T) (kn, g, ak)) H locs) => ?_)
  refine lv_iconst (v := nI 0) hx hb dX0_become_14 (by decide) ?_
  refine lv_istore (lv' := [(4, .int (nI 0)), (3, .int (nI ((tS T) a))), (0, .ref h), (1, .int (nI a)), (2, .int (nI b))]) hx hb dX0_become_15 hl (by decide) rfl (fun ls hl => ?_)
  have hw : st_W D A s.heap (w0 h ad k (va_up (tS T) a b, tA T, tR T, st_cl none (tF T) a 0, st_cl false (tO T) a 0) (kn, g, ak)) H locs := by rw [st_cl_0, st_cl_0]; exact hw
  refine st_loop (σ := Nat) (fun x H locs ls => st_W D A s.heap (w0 h ad k (va_up (tS T) a b, tA T, tR T, st_cl none (tF T) a x, st_cl false (tO T) a x) (kn, g, ak)) H locs ∧ lv_has ls 5 [(0, .ref h), (1, .int (nI a)), (2, .int (nI b)), (3, .int (nI (tS T a))), (4, .int (nI x))] ∧ x ≤ 4) (fun x => 5 - x) (fun i H locs ls hJ ih => ?_) 0 ⟨hw, lv_sub hl [2, 3, 4, 1, 0] rfl, by omega⟩
  have hw : st_W D A s.heap (w0 h ad k (va_up (tS T) a b, tA T, tR T, st_cl none (tF T) a i, st_cl false (tO T) a i) (kn, g, ak)) H locs := hJ.1
  have hl : lv_has ls 5 [(0, .ref h), (1, .int (nI a)), (2, .int (nI b)), (3, .int (nI (tS T a))), (4, .int (nI i))] := hJ.2.1
  have hI : i ≤ 4 := hJ.2.2
  clear hJ
  refine lv_iload hx hb dX0_become_17 (lv_at hl 4 rfl) ?_
  refine lv_iconst (v := nI 4) hx hb dX0_become_19 (by decide) ?_
  refine st_icge (tgt := 53) hx hb dX0_become_20 (by decide) (by omega) (by omega) (fun hc => ?_) (fun hc => ?_)
  · obtain rfl : i = 4 := by omega
    refine lv_aload_n hx hb dX0_become_53 rfl (lv_at hl 0 rfl) ?_
    refine st_callTv (As := []) (rest := []) E hw (mX0_forgetAll l D A h ad k (va_up (tS T) a b, tA T, tR T, st_cl none (tF T) a 4, st_cl false (tO T) a 4) kn g ak) (lw_V q74 q76 qs1 q16 q77) hdX0_forgetAll rfl ⟨rfl, rfl⟩ ⟨Nat.le_of_ble_eq_true rfl, Nat.le_of_ble_eq_true rfl⟩ (ci := 0) rfl rfl rfl hl.1 rfl (Nat.le_of_ble_eq_true rfl) dX0_become_54 (fun u H locs hp hw => ?_)
    have hw : st_W D A s.heap (w0 h ad k (va_up (tS T) a b, tA T, tR T, st_cl none (tF T) a 4, st_cl false (tO T) a 4) (fun _ => 0, g, ak)) H locs := hw
    refine lv_iload_n hx hb dX0_become_57 rfl (lv_at hl 3 rfl) ?_
    exact st_ri E hr hlk () hw rfl dX0_become_58
  · refine lv_aload_n hx hb dX0_become_23 rfl (lv_at hl 0 rfl) ?_
    refine st_get0 E hw rfl 3 (by decide) q29 (v := .ref (ad 3)) rfl dX0_become_24 ?_
    refine lv_iload_n hx hb dX0_become_27 rfl (lv_at hl 1 rfl) ?_
    refine lv_iconst (v := nI 4) hx hb dX0_become_28 (by decide) ?_
    refine st_imul hx hb dX0_become_29 ?_
    refine lv_iload hx hb dX0_become_30 (lv_at hl 4 rfl) ?_
    refine st_iadd hx hb dX0_become_32 ?_
    refine lv_iconst (v := st_o none) hx hb dX0_become_33 (by decide) ?_
    refine st_iast E hw 4 0 rfl rfl (i := a * 4 + i) (by omega) (by decide) (fun j => st_o ((st_cl none (tF T) a (i + 1)) j)) (fun j => st_cl_s st_o j) dX0_become_34 (fun H locs (hw : st_W D A s.heap (w0 h ad k (va_up (tS T) a b, tA T, tR T, st_cl none (tF T) a (i + 1), st_cl false (tO T) a i) (kn, g, ak)) H locs) => ?_)
    refine lv_aload_n hx hb dX0_become_35 rfl (lv_at hl 0 rfl) ?_
    refine st_get0 E hw rfl 4 (by decide) q30 (v := .ref (ad 4)) rfl dX0_become_36 ?_
    refine lv_iload_n hx hb dX0_become_39 rfl (lv_at hl 1 rfl) ?_
    refine lv_iconst (v := nI 4) hx hb dX0_become_40 (by decide) ?_
    refine st_imul hx hb dX0_become_41 ?_
    refine lv_iload hx hb dX0_become_42 (lv_at hl 4 rfl) ?_
    refine st_iadd hx hb dX0_become_44 ?_
    refine lv_iconst (v := nI 0) hx hb dX0_become_45 (by decide) ?_
    refine st_zast E hw 5 1 rfl rfl (i := a * 4 + i) (by omega) (by decide) (st_b false) (st_nb false) (fun j => st_b ((st_cl false (tO T) a (i + 1)) j)) (fun j => st_cl_s st_b j) dX0_become_46 (fun H locs (hw : st_W D A s.heap (w0 h ad k (va_up (tS T) a b, tA T, tR T, st_cl none (tF T) a (i + 1), st_cl false (tO T) a (i + 1)) (kn, g, ak)) H locs) => ?_)
    refine lv_iinc (v := nI (i + 1)) (lv' := [(4, .int (nI (i + 1))), (0, .ref h), (1, .int (nI a)), (2, .int (nI b)), (3, .int (nI (tS T a)))]) hx hb dX0_become_47 hl (k := 4) rfl (st_inc _) (by decide) rfl (fun ls hl => ?_)
    refine lv_goto (tgt := 17) hx hb dX0_become_50 (by decide) ?_
    exact ih (i + 1) _ _ _ ⟨hw, lv_sub hl [1, 2, 3, 4, 0] rfl, by omega⟩ (by show 5 - (i + 1) < 5 - i; omega)
set_option maxHeartbeats 4000000 in
set_option maxRecDepth 100000 in
/-- ask(a, b) -/
theorem mX0_ask (l : Launch) (D : va_G) (A : Nat → Prop) (h : Nat) (ad : Nat → Nat) (k : Nat → ClassId) (T : TT) (kn : Nat → Nat) (tk : Nat) (li : Nat → Nat) (ab : Nat → Option Nat) (un : Nat → Bool) (ak : Option Nat) (a b : Nat) (h_a : a < 16) (h_b : b < 16) (hK : ∀ q, kn q ≤ 2) (hI : st_SI (tk, li, ab, un)) : Met l yX0_ask (ws_ yX0_ask cX0_ask 4 (some .boolean)) ({ frames := 0, cells := 0, slots := 0, locals := 0 }) (va_Pc [.ref h, .int (nI a), .int (nI b)] (st_I D A (w0 h ad k T (kn, (tk, li, ab, un), ak)) (ty0 k))) (va_Qi (fun (r : Int32) (u : Sr) => st_Qa kn ak (a * 16 + b) (tk, li, ab, un) r u) (fun u t => st_I D A (w0 h ad k T (kn, u, ak)) (ty0 k) t) A) 0 0 A := by
  refine st_start (by decide) (Nat.le_of_ble_eq_true rfl) (fun p e s m below meth c E hr hlk hw ls hl => ?_)
  have hx := E.1
  have hb := E.2.1
  have E : st_E p s m c cX0_ask 4 _ RX0 D (ty0 k) := E
  have hl : lv_has ls 4 [(0, .ref h), (1, .int (nI a)), (2, .int (nI b))] := hl
  have h_k := hK (a * 16 + b)
  refine lv_iload_n hx hb dX0_ask_0 rfl (lv_at hl 1 rfl) ?_
  refine lv_bipush (v := nI 16) hx hb dX0_ask_1 (by decide) ?_
  refine st_imul hx hb dX0_ask_3 ?_
  refine lv_iload_n hx hb dX0_ask_4 rfl (lv_at hl 2 rfl) ?_
  refine st_iadd hx hb dX0_ask_5 ?_
  refine lv_istore_n (lv' := [(3, .int (nI (a * 16 + b))), (0, .ref h), (1, .int (nI a)), (2, .int (nI b))]) hx hb dX0_ask_6 rfl hl (by decide) rfl (fun ls hl => ?_)
  refine lv_aload_n hx hb dX0_ask_7 rfl (lv_at hl 1 rfl) ?_
  refine st_get0 E hw rfl 5 (by decide) q31 (v := .ref (ad 5)) rfl dX0_ask_8 ?_
  refine lv_iload_n hx hb dX0_ask_11 rfl (lv_at hl 0 rfl) ?_
  refine st_bald E hw 6 2 rfl rfl (i := a * 16 + b) (by omega) (by decide) (v := nI (kn (a * 16 + b))) rfl dX0_ask_12 ?_
  refine lv_iconst (v := nI 2) hx hb dX0_ask_13 (by decide) ?_
  refine st_icne (tgt := 19) hx hb dX0_ask_14 (by decide) (by omega) (by omega) (fun hc => ?_) (fun hc => ?_)
  · refine lv_aload_n hx hb dX0_ask_19 rfl (lv_at hl 1 rfl) ?_
    refine st_get0 E hw rfl 5 (by decide) q31 (v := .ref (ad 5)) rfl dX0_ask_20 ?_
    refine lv_iload_n hx hb dX0_ask_23 rfl (lv_at hl 0 rfl) ?_
    refine st_bald E hw 6 2 rfl rfl (i := a * 16 + b) (by omega) (by decide) (v := nI (kn (a * 16 + b))) rfl dX0_ask_24 ?_
    refine lv_iconst (v := nI 1) hx hb dX0_ask_25 (by decide) ?_
    refine st_iceq (tgt := 38) hx hb dX0_ask_26 (by decide) (by omega) (by omega) (fun hd => ?_) (fun hd => ?_)
    · refine lv_iconst (v := nI 1) hx hb dX0_ask_38 (by decide) ?_
      exact st_rz E hr hlk (tk, li, ab, un) hw rfl ⟨(st_p1 hc).symm, hI, st_Ex_rf, fun _ => Or.inr hd⟩ dX0_ask_39
    · refine lv_aload_n hx hb dX0_ask_29 rfl (lv_at hl 1 rfl) ?_
      refine st_get0 E hw rfl 9 (by decide) q35 (v := .ref (ad 8)) rfl dX0_ask_30 ?_
      refine lv_iload_n hx hb dX0_ask_33 rfl (lv_at hl 0 rfl) ?_
      refine st_zald E hw 9 1 rfl rfl (i := a * 16 + b) (by omega) (by decide) (v := st_b (un (a * 16 + b))) rfl dX0_ask_34 ?_
      refine st_ifeqb (tgt := 40) hx hb dX0_ask_35 (by decide) (fun he => ?_) (fun he => ?_)
      · have h_t := st_room hI (by omega) he
        have h_n := st_ask_new (ak := ak) hI (p := a * 16 + b) (by omega) he
        refine lv_aload_n hx hb dX0_ask_40 rfl (lv_at hl 1 rfl) ?_
        refine st_get0 E hw rfl 9 (by decide) q35 (v := .ref (ad 8)) rfl dX0_ask_41 ?_
        refine lv_iload_n hx hb dX0_ask_44 rfl (lv_at hl 0 rfl) ?_
        refine lv_iconst (v := nI 1) hx hb dX0_ask_45 (by decide) ?_
        refine st_zast E hw 9 1 rfl rfl (i := a * 16 + b) (by omega) (by decide) (st_b true) (st_nb true) (fun j => st_b ((va_up un (a * 16 + b) true) j)) (fun j => st_up st_b _ _ true j) dX0_ask_46 (fun H locs (hw : st_W D A s.heap (w0 h ad k T (kn, (tk, li, ab, va_up un (a * 16 + b) true), ak)) H locs) => ?_)
        refine lv_aload_n hx hb dX0_ask_47 rfl (lv_at hl 1 rfl) ?_
        refine st_get0 E hw rfl 8 (by decide) q34 (v := .ref (ad 7)) rfl dX0_ask_48 ?_
        refine lv_iload_n hx hb dX0_ask_51 rfl (lv_at hl 0 rfl) ?_
        refine lv_aload_n hx hb dX0_ask_52 rfl (lv_at hl 1 rfl) ?_
        refine st_get0 E hw rfl 10 (by decide) q36 (v := .int (st_o ak)) rfl dX0_ask_53 ?_
        refine st_iast E hw 8 0 rfl rfl (i := a * 16 + b) (by omega) (by decide) (fun j => st_o ((va_up ab (a * 16 + b) ak) j)) (fun j => st_up st_o _ _ ak j) dX0_ask_56 (fun H locs (hw : st_W D A s.heap (w0 h ad k T (kn, (tk, li, va_up ab (a * 16 + b) ak, va_up un (a * 16 + b) true), ak)) H locs) => ?_)
        refine lv_aload_n hx hb dX0_ask_57 rfl (lv_at hl 1 rfl) ?_
        refine st_get0 E hw rfl 7 (by decide) q33 (v := .ref (ad 6)) rfl dX0_ask_58 ?_
        refine lv_aload_n hx hb dX0_ask_61 rfl (lv_at hl 1 rfl) ?_
        refine st_get0 E hw rfl 6 (by decide) q32 (v := .int (nI tk)) rfl dX0_ask_62 ?_
        refine lv_iload_n hx hb dX0_ask_65 rfl (lv_at hl 0 rfl) ?_
        refine st_iast E hw 7 0 rfl rfl (i := tk) (by omega) (by decide) (fun j => nI ((va_up li tk (a * 16 + b)) j)) (fun j => st_up nI _ _ (a * 16 + b) j) dX0_ask_66 (fun H locs (hw : st_W D A s.heap (w0 h ad k T (kn, (tk, va_up li tk (a * 16 + b), va_up ab (a * 16 + b) ak, va_up un (a * 16 + b) true), ak)) H locs) => ?_)
        refine lv_aload_n hx hb dX0_ask_67 rfl (lv_at hl 1 rfl) ?_
        refine lv_dup hx hb dX0_ask_68 rfl ?_
        refine st_get0 E hw rfl 6 (by decide) q32 (v := .int (nI tk)) rfl dX0_ask_69 ?_
        refine lv_iconst (v := nI 1) hx hb dX0_ask_72 (by decide) ?_
        refine st_iadd hx hb dX0_ask_73 ?_
        refine st_put0 E hw rfl 6 (by decide) q32 rfl .int (by decide +kernel) rfl rfl (Nat.le_of_ble_eq_true rfl) dX0_ask_74 (fun H locs (hw : st_W D A s.heap (w0 h ad k T (kn, (tk + 1, va_up li tk (a * 16 + b), va_up ab (a * 16 + b) ak, va_up un (a * 16 + b) true), ak)) H locs) => ?_)
        refine lv_iconst (v := nI 1) hx hb dX0_ask_77 (by decide) ?_
        exact st_rz E hr hlk (tk + 1, va_up li tk (a * 16 + b), va_up ab (a * 16 + b) ak, va_up un (a * 16 + b) true) hw rfl ⟨(st_p1 hc).symm, h_n.1, h_n.2, fun _ => Or.inl st_us⟩ dX0_ask_78
      · refine lv_iconst (v := nI 1) hx hb dX0_ask_38 (by decide) ?_
        exact st_rz E hr hlk (tk, li, ab, un) hw rfl ⟨(st_p1 hc).symm, hI, st_Ex_rf, fun _ => Or.inl he⟩ dX0_ask_39
  · refine lv_iconst (v := nI 0) hx hb dX0_ask_17 (by decide) ?_
    exact st_rz E hr hlk (tk, li, ab, un) hw rfl ⟨(st_p0 (fun q => q hc)).symm, hI, st_Ex_rf, fun q => absurd hc q⟩ dX0_ask_18
theorem st_CH_s {T : TT} {g : Sr} {q r : Nat} (hC : st_CH T g) (hS : st_SI g) (hu : gU g q = true) (hn : ¬ st_Sb T q) (e : gA g q = some r) : r < 256 ∧ gU g r = true ∧ ¬ st_Sb T r := by
  rcases hC q hu with h | ⟨r', h1, h2, h3⟩
  · rw [h] at e; cases e
  · rw [h1] at e
    cases e
    exact ⟨(hS.2.1 r h2).1, h2, fun h => hn (h3 h)⟩
set_option maxHeartbeats 4000000 in
set_option maxRecDepth 100000 in
/-- refute(pair) -/
theorem mX0_refute (l : Launch) (D : va_G) (A : Nat → Prop) (h : Nat) (ad : Nat → Nat) (k : Nat → ClassId) (T : TT) (kn : Nat → Nat) (tk : Nat) (li : Nat → Nat) (ab : Nat → Option Nat) (un : Nat → Bool) (ak : Option Nat) (q0 : Nat) (hK : st_KI T kn) (hI0 : st_SI (tk, li, ab, un)) (hC : st_CH T (tk, li, ab, un)) (h_u : un q0 = true) (h_n : ¬ st_Sb T q0) : Met l yX0_refute (ws_ yX0_refute cX0_refute 4 none) ({ frames := 0, cells := 0, slots := 0, locals := 0 }) (va_Pc [.ref h, .int (nI q0)] (st_I D A (w0 h ad k T (kn, (tk, li, ab, un), ak)) (ty0 k))) (va_Qv (fun (u : Nat → Nat) => st_KI T u) (fun u t => st_I D A (w0 h ad k T (u, (tk, li, ab, un), ak)) (ty0 k) t) A) 0 0 A := by
  refine st_start (by decide) (Nat.le_of_ble_eq_true rfl) (fun p e s m below meth c E hr hlk hw ls hl => ?_)
  have hx := E.1
  have hb := E.2.1
  have E : st_E p s m c cX0_refute 4 _ RX0 D (ty0 k) := E
  have hl : lv_has ls 4 [(0, .ref h), (1, .int (nI q0))] := hl
  refine lv_iload_n hx hb dX0_refute_0 rfl (lv_at hl 1 rfl) ?_
  refine lv_istore_n (lv' := [(2, .int (nI q0)), (0, .ref h), (1, .int (nI q0))]) hx hb dX0_refute_1 rfl hl (by decide) rfl (fun ls hl => ?_)
  refine lv_iconst (v := nI 0) hx hb dX0_refute_2 (by decide) ?_
  refine lv_istore_n (lv' := [(3, .int (nI 0)), (2, .int (nI q0)), (0, .ref h), (1, .int (nI q0))]) hx hb dX0_refute_3 rfl hl (by decide) rfl (fun ls hl => ?_)
  have hl : lv_has ls 4 [(3, .int (nI 0)), (2, .int (st_o (some q0))), (0, .ref h), (1, .int (nI q0))] := hl
  refine st_loop (σ := Nat × Option Nat × (Nat → Nat)) (fun x H locs ls => st_W D A s.heap (w0 h ad k T (x.2.2, (tk, li, ab, un), ak)) H locs ∧ lv_has ls 4 [(0, .ref h), (1, .int (nI q0)), (2, .int (st_o x.2.1)), (3, .int (nI x.1))] ∧ (x.1 ≤ 256 ∧ st_KI T x.2.2 ∧ ∀ q, x.2.1 = some q → q < 256 ∧ un q = true ∧ ¬ st_Sb T q)) (fun x => 257 - x.1) (fun x H locs ls hJ ih => ?_) (0, some q0, kn) ⟨hw, lv_sub hl [2, 3, 1, 0] rfl, ⟨by omega, hK, fun q e => by cases e; exact ⟨(hI0.2.1 _ h_u).1, h_u, h_n⟩⟩⟩
  obtain ⟨i, po, kn1⟩ := x
  have hw : st_W D A s.heap (w0 h ad k T (kn1, (tk, li, ab, un), ak)) H locs := hJ.1
  have hl : lv_has ls 4 [(0, .ref h), (1, .int (nI q0)), (2, .int (st_o po)), (3, .int (nI i))] := hJ.2.1
  have hI : (i ≤ 256 ∧ st_KI T kn1 ∧ ∀ q, po = some q → q < 256 ∧ un q = true ∧ ¬ st_Sb T q) := hJ.2.2
  clear hJ
  refine lv_iload_n hx hb dX0_refute_4 rfl (lv_at hl 3 rfl) ?_
  refine lv_sipush (v := nI 256) hx hb dX0_refute_5 (by decide) ?_
  refine st_icge (tgt := 35) hx hb dX0_refute_8 (by decide) (by omega) (by omega) (fun hc => ?_) (fun hc => ?_)
  · exact st_rv E hr hlk kn1 hw hI.2.1 dX0_refute_35
  · refine lv_iload_n hx hb dX0_refute_11 rfl (lv_at hl 2 rfl) ?_
    refine st_ifltO (tgt := 35) hx hb dX0_refute_12 (by decide) (fun z hz => by have := (hI.2.2 z hz).1; omega) (fun hq => ?_) (fun q hq => ?_)
    · exact st_rv E hr hlk kn1 hw hI.2.1 dX0_refute_35
    · subst hq
      have hl : lv_has ls 4 [(0, .ref h), (1, .int (nI q0)), (2, .int (nI q)), (3, .int (nI i))] := hl
      obtain ⟨i1, i2, i3⟩ := hI
      obtain ⟨j1, j2, j3⟩ := i3 q rfl
      refine lv_aload_n hx hb dX0_refute_15 rfl (lv_at hl 0 rfl) ?_
      refine st_get0 E hw rfl 5 (by decide) q31 (v := .ref (ad 5)) rfl dX0_refute_16 ?_
      refine lv_iload_n hx hb dX0_refute_19 rfl (lv_at hl 2 rfl) ?_
      refine lv_iconst (v := nI 2) hx hb dX0_refute_20 (by decide) ?_
      refine st_bast E hw 6 2 rfl rfl (i := q) (by omega) (by decide) (nI 2) (st_ny2) (fun j => nI ((va_up kn1 q 2) j)) (fun j => st_up nI _ _ 2 j) dX0_refute_21 (fun H locs (hw : st_W D A s.heap (w0 h ad k T (va_up kn1 q 2, (tk, li, ab, un), ak)) H locs) => ?_)
      refine lv_aload_n hx hb dX0_refute_22 rfl (lv_at hl 0 rfl) ?_
      refine st_get0 E hw rfl 8 (by decide) q34 (v := .ref (ad 7)) rfl dX0_refute_23 ?_
      refine lv_iload_n hx hb dX0_refute_26 rfl (lv_at hl 2 rfl) ?_
      refine st_iald E hw 8 0 rfl rfl (i := q) (by omega) (by decide) (v := st_o (ab q)) rfl dX0_refute_27 ?_
      refine lv_istore_n (lv' := [(2, .int (st_o (ab q))), (0, .ref h), (1, .int (nI q0)), (3, .int (nI i))]) hx hb dX0_refute_28 rfl hl (by decide) rfl (fun ls hl => ?_)
      refine lv_iinc (v := nI (i + 1)) (lv' := [(3, .int (nI (i + 1))), (2, .int (st_o (ab q))), (0, .ref h), (1, .int (nI q0))]) hx hb dX0_refute_29 hl (k := 3) rfl (st_inc _) (by decide) rfl (fun ls hl => ?_)
      refine lv_goto (tgt := 4) hx hb dX0_refute_32 (by decide) ?_
      exact ih (i + 1, ab q, va_up kn1 q 2) _ _ _ ⟨hw, lv_sub hl [2, 3, 1, 0] rfl, by omega, st_KI_2 i2 j3, fun r e => st_CH_s hC hI0 j2 j3 e⟩ (by show 257 - (i + 1) < 257 - i; omega)
end
section
/-! StructuralTypes: the search -/
theorem st_ff_need {T : TT} {a b l y : Nat} {R : Nat → Prop} (h5 : tS T a = 5) (h6 : tS T b = 5) (hl : l < 4) (hy : tF T (b * 4 + l) = some y) (hr : st_rl T R a b) : ∃ x, tF T (a * 4 + l) = some x ∧ (tO T (a * 4 + l) = true → tO T (b * 4 + l) = true) ∧ R (x * 16 + y) :=
  (st_rl_inv (by rw [h6]; decide) (by rw [h5]; decide) hr).2.2 h5 l hl y hy
theorem st_p_01 {P : Prop} (h : ¬ st_p P = 0) : st_p P = 1 := st_p1 (Classical.byContradiction fun q => h (st_p0 q))
theorem st_p_c {P Q : Prop} (h : P ↔ Q) : st_p P = st_p Q := by rw [propext h]
theorem st_SI_le {g : Sr} (h : st_SI g) : gT g ≤ 256 := by rw [h.1]; exact st_cnt_le _ 256
set_option maxHeartbeats 4000000 in
set_option maxRecDepth 100000 in
/-- followFields(a, b) -/
theorem mX0_followFields (l : Launch) (D : va_G) (A : Nat → Prop) (h : Nat) (ad : Nat → Nat) (k : Nat → ClassId) (T : TT) (kn : Nat → Nat) (tk : Nat) (li : Nat → Nat) (ab : Nat → Option Nat) (un : Nat → Bool) (ak : Option Nat) (a b : Nat) (h_a : a < 16) (h_b : b < 16) (hT : st_wf T) (hK : ∀ q, kn q ≤ 2) (hI0 : st_SI (tk, li, ab, un)) (h5 : tS T a = 5) (h6 : tS T b = 5) : Met l yX0_followFields (ws_ yX0_followFields cX0_followFields 7 (some .boolean)) ({ frames := 1, cells := 0, slots := 0, locals := 23 }) (va_Pc [.ref h, .int (nI a), .int (nI b)] (st_I D A (w0 h ad k T (kn, (tk, li, ab, un), ak)) (ty0 k))) (va_Qi (fun (r : Int32) (u : Sr) => st_Qf T kn ak a b (tk, li, ab, un) r u) (fun u t => st_I D A (w0 h ad k T (kn, u, ak)) (ty0 k) t) A) 0 0 A := by
  refine st_start (by decide) (Nat.le_of_ble_eq_true rfl) (fun p e s m below meth c E hr hlk hw ls hl => ?_)
  have hx := E.1
  have hb := E.2.1
  have E : st_E p s m c cX0_followFields 7 _ RX0 D (ty0 k) := E
  have hl : lv_has ls 7 [(0, .ref h), (1, .int (nI a)), (2, .int (nI b))] := hl
  refine lv_iconst (v := nI 0) hx hb dX0_followFields_0 (by decide) ?_
  refine lv_istore_n (lv' := [(3, .int (nI 0)), (0, .ref h), (1, .int (nI a)), (2, .int (nI b))]) hx hb dX0_followFields_1 rfl hl (by decide) rfl (fun ls hl => ?_)
  refine st_loop (σ := Nat × Nat × (Nat → Nat) × (Nat → Option Nat) × (Nat → Bool)) (fun x H locs ls => st_W D A s.heap (w0 h ad k T (kn, (x.2.1, x.2.2.1, x.2.2.2.1, x.2.2.2.2), ak)) H locs ∧ lv_has ls 7 [(0, .ref h), (1, .int (nI a)), (2, .int (nI b)), (3, .int (nI x.1))] ∧ (x.1 ≤ 4 ∧ st_SI (x.2.1, x.2.2.1, x.2.2.2.1, x.2.2.2.2) ∧ st_Ex (st_nd T a b) ak (tk, li, ab, un) (x.2.1, x.2.2.1, x.2.2.2.1, x.2.2.2.2) ∧ ∀ j, j < x.1 → st_fr T (fun q => x.2.2.2.2 q = true ∨ kn q = 1) (a * 4 + j) (b * 4 + j))) (fun x => 5 - x.1) (fun x H locs ls hJ ih => ?_) (0, tk, li, ab, un) ⟨hw, lv_sub hl [1, 2, 3, 0] rfl, ⟨by omega, hI0, st_Ex_rf, fun j hj => absurd hj (Nat.not_lt_zero j)⟩⟩
  obtain ⟨l1, tk1, li1, ab1, un1⟩ := x
  have hw : st_W D A s.heap (w0 h ad k T (kn, (tk1, li1, ab1, un1), ak)) H locs := hJ.1
  have hl : lv_has ls 7 [(0, .ref h), (1, .int (nI a)), (2, .int (nI b)), (3, .int (nI l1))] := hJ.2.1
  have hI : (l1 ≤ 4 ∧ st_SI (tk1, li1, ab1, un1) ∧ st_Ex (st_nd T a b) ak (tk, li, ab, un) (tk1, li1, ab1, un1) ∧ ∀ j, j < l1 → st_fr T (fun q => un1 q = true ∨ kn q = 1) (a * 4 + j) (b * 4 + j)) := hJ.2.2
  clear hJ
  obtain ⟨i1, i2, i3, i4⟩ := hI
  refine lv_iload_n hx hb dX0_followFields_2 rfl (lv_at hl 3 rfl) ?_
  refine lv_iconst (v := nI 4) hx hb dX0_followFields_3 (by decide) ?_
  refine st_icge (tgt := 96) hx hb dX0_followFields_4 (by decide) (by omega) (by omega) (fun hc => ?_) (fun hc => ?_)
  · refine lv_iconst (v := nI 1) hx hb dX0_followFields_96 (by decide) ?_
    exact st_rz E hr hlk (tk1, li1, ab1, un1) hw rfl ⟨i2, i3, True, (st_p1 trivial).symm, fun _ => Or.inr (Or.inr ⟨h5.trans h6.symm, fun h4 => absurd (h5.symm.trans h4) (by decide), fun _ j hj => i4 j (by omega)⟩), fun q => absurd trivial q⟩ dX0_followFields_97
  · refine lv_iload_n hx hb dX0_followFields_7 rfl (lv_at hl 1 rfl) ?_
    refine lv_iconst (v := nI 4) hx hb dX0_followFields_8 (by decide) ?_
    refine st_imul hx hb dX0_followFields_9 ?_
    refine lv_iload_n hx hb dX0_followFields_10 rfl (lv_at hl 3 rfl) ?_
    refine st_iadd hx hb dX0_followFields_11 ?_
    refine lv_istore (lv' := [(4, .int (nI (a * 4 + l1))), (0, .ref h), (1, .int (nI a)), (2, .int (nI b)), (3, .int (nI l1))]) hx hb dX0_followFields_12 hl (by decide) rfl (fun ls hl => ?_)
    refine lv_iload_n hx hb dX0_followFields_14 rfl (lv_at hl 3 rfl) ?_
    refine lv_iconst (v := nI 4) hx hb dX0_followFields_15 (by decide) ?_
    refine st_imul hx hb dX0_followFields_16 ?_
    refine lv_iload_n hx hb dX0_followFields_17 rfl (lv_at hl 4 rfl) ?_
    refine st_iadd hx hb dX0_followFields_18 ?_
    refine lv_istore (lv' := [(5, .int (nI (b * 4 + l1))), (4, .int (nI (a * 4 + l1))), (0, .ref h), (1, .int (nI a)), (2, .int (nI b)), (3, .int (nI l1))]) hx hb dX0_followFields_19 hl (by decide) rfl (fun ls hl => ?_)
    refine lv_aload_n hx hb dX0_followFields_21 rfl (lv_at hl 2 rfl) ?_
    refine st_get0 E hw rfl 3 (by decide) q29 (v := .ref (ad 3)) rfl dX0_followFields_22 ?_
    refine lv_iload hx hb dX0_followFields_25 (lv_at hl 0 rfl) ?_
    refine st_iald E hw 4 0 rfl rfl (i := b * 4 + l1) (by omega) (by decide) (v := st_o ((tF T) (b * 4 + l1))) rfl dX0_followFields_27 ?_
    refine st_ifltO (tgt := 90) hx hb dX0_followFields_28 (by decide) (fun z hz => by have := hT.2.2.2 _ _ hz; omega) (fun hd => ?_) (fun y hy => ?_)
    · refine lv_iinc (v := nI (l1 + 1)) (lv' := [(3, .int (nI (l1 + 1))), (5, .int (nI (b * 4 + l1))), (4, .int (nI (a * 4 + l1))), (0, .ref h), (1, .int (nI a)), (2, .int (nI b))]) hx hb dX0_followFields_90 hl (k := 5) rfl (st_inc _) (by decide) rfl (fun ls hl => ?_)
      refine lv_goto (tgt := 2) hx hb dX0_followFields_93 (by decide) ?_
      exact ih (l1 + 1, tk1, li1, ab1, un1) _ _ _ ⟨hw, lv_sub hl [3, 4, 5, 0] rfl, ⟨by omega, i2, i3, lt_s i4 (fun z hz => by rw [hd] at hz; cases hz)⟩⟩ (by show 5 - (l1 + 1) < 5 - l1; omega)
    · refine lv_aload_n hx hb dX0_followFields_31 rfl (lv_at hl 2 rfl) ?_
      refine st_get0 E hw rfl 3 (by decide) q29 (v := .ref (ad 3)) rfl dX0_followFields_32 ?_
      refine lv_iload hx hb dX0_followFields_35 (lv_at hl 1 rfl) ?_
      refine st_iald E hw 4 0 rfl rfl (i := a * 4 + l1) (by omega) (by decide) (v := st_o ((tF T) (a * 4 + l1))) rfl dX0_followFields_37 ?_
      refine st_ifltO (tgt := 61) hx hb dX0_followFields_38 (by decide) (fun z hz => by have := hT.2.2.2 _ _ hz; omega) (fun hv => ?_) (fun v hv => ?_)
      · refine lv_iconst (v := nI 0) hx hb dX0_followFields_61 (by decide) ?_
        exact st_rz E hr hlk (tk1, li1, ab1, un1) hw rfl ⟨i2, i3, False, (st_p0 id).symm, fun q => q.elim, fun _ R hR hr => by obtain ⟨z, ez, -⟩ := st_ff_need h5 h6 hc hy hr; rw [hv] at ez; cases ez⟩ dX0_followFields_62
      · refine lv_aload_n hx hb dX0_followFields_41 rfl (lv_at hl 2 rfl) ?_
        refine st_get0 E hw rfl 4 (by decide) q30 (v := .ref (ad 4)) rfl dX0_followFields_42 ?_
        refine lv_iload hx hb dX0_followFields_45 (lv_at hl 1 rfl) ?_
        refine st_zald E hw 5 1 rfl rfl (i := a * 4 + l1) (by omega) (by decide) (v := st_b ((tO T) (a * 4 + l1))) rfl dX0_followFields_47 ?_
        refine st_ifeqb (tgt := 63) hx hb dX0_followFields_48 (by decide) (fun he => ?_) (fun he => ?_)
        · have h_o : tO T (a * 4 + l1) = true → tO T (b * 4 + l1) = true := fun z => by rw [he] at z; cases z
          have h_nd : ∀ R : Nat → Prop, st_rl T R a b → R (v * 16 + y) := by intro R hr; obtain ⟨z, ez, -, hz⟩ := st_ff_need h5 h6 hc hy hr; rw [hv] at ez; cases ez; exact hz
          have h_v := hT.2.2.2 _ _ hv
          have h_y := hT.2.2.2 _ _ hy
          refine lv_aload_n hx hb dX0_followFields_63 rfl (lv_at hl 2 rfl) ?_
          refine lv_aload_n hx hb dX0_followFields_64 rfl (lv_at hl 2 rfl) ?_
          refine st_get0 E hw rfl 3 (by decide) q29 (v := .ref (ad 3)) rfl dX0_followFields_65 ?_
          refine lv_iload hx hb dX0_followFields_68 (lv_at hl 1 rfl) ?_
          refine st_iald E hw 4 0 rfl rfl (i := a * 4 + l1) (by omega) (by decide) (v := st_o ((tF T) (a * 4 + l1))) rfl dX0_followFields_70 ?_
          refine st_top (y := nI v) (by rw [hv]; rfl) ?_
          refine lv_aload_n hx hb dX0_followFields_71 rfl (lv_at hl 2 rfl) ?_
          refine st_get0 E hw rfl 3 (by decide) q29 (v := .ref (ad 3)) rfl dX0_followFields_72 ?_
          refine lv_iload hx hb dX0_followFields_75 (lv_at hl 0 rfl) ?_
          refine st_iald E hw 4 0 rfl rfl (i := b * 4 + l1) (by omega) (by decide) (v := st_o ((tF T) (b * 4 + l1))) rfl dX0_followFields_77 ?_
          refine st_top (y := nI y) (by rw [hy]; rfl) ?_
          refine st_callT (As := [.int (nI v), .int (nI y)]) (rest := []) E hw (mX0_ask l D A h ad k T kn tk1 li1 ab1 un1 ak v y h_v h_y hK i2) (lw_V q102 q104 qs4 q16 q105) hdX0_ask rfl ⟨rfl, rfl⟩ ⟨Nat.le_of_ble_eq_true rfl, Nat.le_of_ble_eq_true rfl⟩ (ci := 0) rfl rfl rfl hl.1 rfl (Nat.le_of_ble_eq_true rfl) dX0_followFields_78 (fun r u H locs hp hw => ?_)
          obtain ⟨tk2, li2, ab2, un2⟩ := u
          obtain ⟨rfl, p1, p2, p3⟩ := hp
          have hw : st_W D A s.heap (w0 h ad k T (kn, (tk2, li2, ab2, un2), ak)) H locs := hw
          have p4 := st_Ex_tr i3 p2 (fun q h => h) (fun q e R hr => by rw [e]; exact h_nd R hr)
          refine lv_istore (lv' := [(6, .int (st_p (kn (v * 16 + y) ≠ 2))), (5, .int (nI (b * 4 + l1))), (4, .int (nI (a * 4 + l1))), (0, .ref h), (1, .int (nI a)), (2, .int (nI b)), (3, .int (nI l1))]) hx hb dX0_followFields_81 hl (by decide) rfl (fun ls hl => ?_)
          refine lv_iload hx hb dX0_followFields_83 (lv_at hl 0 rfl) ?_
          refine st_ifnep (tgt := 90) hx hb dX0_followFields_85 (by decide) (fun hg => ?_) (fun hg => ?_)
          · refine lv_iinc (v := nI (l1 + 1)) (lv' := [(3, .int (nI (l1 + 1))), (6, .int (st_p (kn (v * 16 + y) ≠ 2))), (5, .int (nI (b * 4 + l1))), (4, .int (nI (a * 4 + l1))), (0, .ref h), (1, .int (nI a)), (2, .int (nI b))]) hx hb dX0_followFields_90 hl (k := 6) rfl (st_inc _) (by decide) rfl (fun ls hl => ?_)
            refine lv_goto (tgt := 2) hx hb dX0_followFields_93 (by decide) ?_
            exact ih (l1 + 1, tk2, li2, ab2, un2) _ _ _ ⟨hw, lv_sub hl [4, 5, 6, 0] rfl, ⟨by omega, p1, p4, lt_s (fun j hj => st_fr_mono (fun q h => h.imp_left (fun z => (p2.2.2.1 q z).1)) (i4 j hj)) (fun z hz => by rw [hy] at hz; cases hz; exact ⟨v, hv, h_o, p3 hg⟩)⟩⟩ (by show 5 - (l1 + 1) < 5 - l1; omega)
          · refine lv_iconst (v := nI 0) hx hb dX0_followFields_88 (by decide) ?_
            exact st_rz E hr hlk (tk2, li2, ab2, un2) hw rfl ⟨p1, p4, False, (st_p0 id).symm, fun q => q.elim, fun _ R hR hr => hR _ (Classical.not_not.mp hg) (h_nd R hr)⟩ dX0_followFields_89
        · refine lv_aload_n hx hb dX0_followFields_51 rfl (lv_at hl 2 rfl) ?_
          refine st_get0 E hw rfl 4 (by decide) q30 (v := .ref (ad 4)) rfl dX0_followFields_52 ?_
          refine lv_iload hx hb dX0_followFields_55 (lv_at hl 0 rfl) ?_
          refine st_zald E hw 5 1 rfl rfl (i := b * 4 + l1) (by omega) (by decide) (v := st_b ((tO T) (b * 4 + l1))) rfl dX0_followFields_57 ?_
          refine st_ifneb (tgt := 63) hx hb dX0_followFields_58 (by decide) (fun hf => ?_) (fun hf => ?_)
          · have h_o : tO T (a * 4 + l1) = true → tO T (b * 4 + l1) = true := fun _ => hf
            have h_nd : ∀ R : Nat → Prop, st_rl T R a b → R (v * 16 + y) := by intro R hr; obtain ⟨z, ez, -, hz⟩ := st_ff_need h5 h6 hc hy hr; rw [hv] at ez; cases ez; exact hz
            have h_v := hT.2.2.2 _ _ hv
            have h_y := hT.2.2.2 _ _ hy
            refine lv_aload_n hx hb dX0_followFields_63 rfl (lv_at hl 2 rfl) ?_
            refine lv_aload_n hx hb dX0_followFields_64 rfl (lv_at hl 2 rfl) ?_
            refine st_get0 E hw rfl 3 (by decide) q29 (v := .ref (ad 3)) rfl dX0_followFields_65 ?_
            refine lv_iload hx hb dX0_followFields_68 (lv_at hl 1 rfl) ?_
            refine st_iald E hw 4 0 rfl rfl (i := a * 4 + l1) (by omega) (by decide) (v := st_o ((tF T) (a * 4 + l1))) rfl dX0_followFields_70 ?_
            refine st_top (y := nI v) (by rw [hv]; rfl) ?_
            refine lv_aload_n hx hb dX0_followFields_71 rfl (lv_at hl 2 rfl) ?_
            refine st_get0 E hw rfl 3 (by decide) q29 (v := .ref (ad 3)) rfl dX0_followFields_72 ?_
            refine lv_iload hx hb dX0_followFields_75 (lv_at hl 0 rfl) ?_
            refine st_iald E hw 4 0 rfl rfl (i := b * 4 + l1) (by omega) (by decide) (v := st_o ((tF T) (b * 4 + l1))) rfl dX0_followFields_77 ?_
            refine st_top (y := nI y) (by rw [hy]; rfl) ?_
            refine st_callT (As := [.int (nI v), .int (nI y)]) (rest := []) E hw (mX0_ask l D A h ad k T kn tk1 li1 ab1 un1 ak v y h_v h_y hK i2) (lw_V q102 q104 qs4 q16 q105) hdX0_ask rfl ⟨rfl, rfl⟩ ⟨Nat.le_of_ble_eq_true rfl, Nat.le_of_ble_eq_true rfl⟩ (ci := 0) rfl rfl rfl hl.1 rfl (Nat.le_of_ble_eq_true rfl) dX0_followFields_78 (fun r u H locs hp hw => ?_)
            obtain ⟨tk2, li2, ab2, un2⟩ := u
            obtain ⟨rfl, p1, p2, p3⟩ := hp
            have hw : st_W D A s.heap (w0 h ad k T (kn, (tk2, li2, ab2, un2), ak)) H locs := hw
            have p4 := st_Ex_tr i3 p2 (fun q h => h) (fun q e R hr => by rw [e]; exact h_nd R hr)
            refine lv_istore (lv' := [(6, .int (st_p (kn (v * 16 + y) ≠ 2))), (5, .int (nI (b * 4 + l1))), (4, .int (nI (a * 4 + l1))), (0, .ref h), (1, .int (nI a)), (2, .int (nI b)), (3, .int (nI l1))]) hx hb dX0_followFields_81 hl (by decide) rfl (fun ls hl => ?_)
            refine lv_iload hx hb dX0_followFields_83 (lv_at hl 0 rfl) ?_
            refine st_ifnep (tgt := 90) hx hb dX0_followFields_85 (by decide) (fun hg => ?_) (fun hg => ?_)
            · refine lv_iinc (v := nI (l1 + 1)) (lv' := [(3, .int (nI (l1 + 1))), (6, .int (st_p (kn (v * 16 + y) ≠ 2))), (5, .int (nI (b * 4 + l1))), (4, .int (nI (a * 4 + l1))), (0, .ref h), (1, .int (nI a)), (2, .int (nI b))]) hx hb dX0_followFields_90 hl (k := 6) rfl (st_inc _) (by decide) rfl (fun ls hl => ?_)
              refine lv_goto (tgt := 2) hx hb dX0_followFields_93 (by decide) ?_
              exact ih (l1 + 1, tk2, li2, ab2, un2) _ _ _ ⟨hw, lv_sub hl [4, 5, 6, 0] rfl, ⟨by omega, p1, p4, lt_s (fun j hj => st_fr_mono (fun q h => h.imp_left (fun z => (p2.2.2.1 q z).1)) (i4 j hj)) (fun z hz => by rw [hy] at hz; cases hz; exact ⟨v, hv, h_o, p3 hg⟩)⟩⟩ (by show 5 - (l1 + 1) < 5 - l1; omega)
            · refine lv_iconst (v := nI 0) hx hb dX0_followFields_88 (by decide) ?_
              exact st_rz E hr hlk (tk2, li2, ab2, un2) hw rfl ⟨p1, p4, False, (st_p0 id).symm, fun q => q.elim, fun _ R hR hr => hR _ (Classical.not_not.mp hg) (h_nd R hr)⟩ dX0_followFields_89
          · refine lv_iconst (v := nI 0) hx hb dX0_followFields_61 (by decide) ?_
            exact st_rz E hr hlk (tk1, li1, ab1, un1) hw rfl ⟨i2, i3, False, (st_p0 id).symm, fun q => q.elim, fun _ R hR hr => by obtain ⟨z, -, ez, -⟩ := st_ff_need h5 h6 hc hy hr; have := ez he; rw [hf] at this; cases this⟩ dX0_followFields_62
set_option maxHeartbeats 4000000 in
set_option maxRecDepth 100000 in
/-- follow(a, b) -/
theorem mX0_follow (l : Launch) (D : va_G) (A : Nat → Prop) (h : Nat) (ad : Nat → Nat) (k : Nat → ClassId) (T : TT) (kn : Nat → Nat) (tk : Nat) (li : Nat → Nat) (ab : Nat → Option Nat) (un : Nat → Bool) (ak : Option Nat) (a b : Nat) (h_a : a < 16) (h_b : b < 16) (hT : st_wf T) (hK : ∀ q, kn q ≤ 2) (hI0 : st_SI (tk, li, ab, un)) : Met l yX0_follow (ws_ yX0_follow cX0_follow 6 (some .boolean)) ({ frames := 2, cells := 0, slots := 0, locals := 49 }) (va_Pc [.ref h, .int (nI a), .int (nI b)] (st_I D A (w0 h ad k T (kn, (tk, li, ab, un), ak)) (ty0 k))) (va_Qi (fun (r : Int32) (u : Sr) => st_Qf T kn ak a b (tk, li, ab, un) r u) (fun u t => st_I D A (w0 h ad k T (kn, u, ak)) (ty0 k) t) A) 0 0 A := by
  refine st_start (by decide) (Nat.le_of_ble_eq_true rfl) (fun p e s m below meth c E hr hlk hw ls hl => ?_)
  have hx := E.1
  have hb := E.2.1
  have E : st_E p s m c cX0_follow 6 _ RX0 D (ty0 k) := E
  have hl : lv_has ls 6 [(0, .ref h), (1, .int (nI a)), (2, .int (nI b))] := hl
  have h_s := hT.1 a
  have h_t := hT.1 b
  have h_1 := hT.2.1 a
  have h_2 := hT.2.1 b
  have h_3 := hT.2.2.1 a
  have h_4 := hT.2.2.1 b
  refine lv_aload_n hx hb dX0_follow_0 rfl (lv_at hl 0 rfl) ?_
  refine st_get0 E hw rfl 0 (by decide) q26 (v := .ref (ad 0)) rfl dX0_follow_1 ?_
  refine lv_iload_n hx hb dX0_follow_4 rfl (lv_at hl 1 rfl) ?_
  refine st_iald E hw 1 0 rfl rfl (i := a) (by omega) (by decide) (v := nI ((tS T) a)) rfl dX0_follow_5 ?_
  refine lv_istore_n (lv' := [(3, .int (nI ((tS T) a))), (0, .ref h), (1, .int (nI a)), (2, .int (nI b))]) hx hb dX0_follow_6 rfl hl (by decide) rfl (fun ls hl => ?_)
  refine lv_aload_n hx hb dX0_follow_7 rfl (lv_at hl 1 rfl) ?_
  refine st_get0 E hw rfl 0 (by decide) q26 (v := .ref (ad 0)) rfl dX0_follow_8 ?_
  refine lv_iload_n hx hb dX0_follow_11 rfl (lv_at hl 3 rfl) ?_
  refine st_iald E hw 1 0 rfl rfl (i := b) (by omega) (by decide) (v := nI ((tS T) b)) rfl dX0_follow_12 ?_
  refine lv_istore (lv' := [(4, .int (nI ((tS T) b))), (3, .int (nI ((tS T) a))), (0, .ref h), (1, .int (nI a)), (2, .int (nI b))]) hx hb dX0_follow_13 hl (by decide) rfl (fun ls hl => ?_)
  refine lv_iload hx hb dX0_follow_15 (lv_at hl 0 rfl) ?_
  refine lv_iconst (v := nI 2) hx hb dX0_follow_17 (by decide) ?_
  refine st_iceq (tgt := 26) hx hb dX0_follow_18 (by decide) (by omega) (by omega) (fun hc => ?_) (fun hc => ?_)
  · refine lv_iconst (v := nI 1) hx hb dX0_follow_26 (by decide) ?_
    exact st_rz E hr hlk (tk, li, ab, un) hw rfl ⟨hI0, st_Ex_rf, True, (st_p1 trivial).symm, fun _ => Or.inl hc, fun q => absurd trivial q⟩ dX0_follow_27
  · refine lv_iload_n hx hb dX0_follow_21 rfl (lv_at hl 1 rfl) ?_
    refine lv_iconst (v := nI 3) hx hb dX0_follow_22 (by decide) ?_
    refine st_icne (tgt := 28) hx hb dX0_follow_23 (by decide) (by omega) (by omega) (fun hd => ?_) (fun hd => ?_)
    · refine lv_iload_n hx hb dX0_follow_28 rfl (lv_at hl 1 rfl) ?_
      refine lv_iload hx hb dX0_follow_29 (lv_at hl 0 rfl) ?_
      refine st_iceq (tgt := 36) hx hb dX0_follow_31 (by decide) (by omega) (by omega) (fun he => ?_) (fun he => ?_)
      · refine lv_iload_n hx hb dX0_follow_36 rfl (lv_at hl 1 rfl) ?_
        refine lv_iconst (v := nI 4) hx hb dX0_follow_37 (by decide) ?_
        refine st_icne (tgt := 89) hx hb dX0_follow_38 (by decide) (by omega) (by omega) (fun hf => ?_) (fun hf => ?_)
        · refine lv_iload_n hx hb dX0_follow_89 rfl (lv_at hl 1 rfl) ?_
          refine lv_iconst (v := nI 5) hx hb dX0_follow_90 (by decide) ?_
          refine st_icne (tgt := 103) hx hb dX0_follow_91 (by decide) (by omega) (by omega) (fun hg => ?_) (fun hg => ?_)
          · refine lv_iconst (v := nI 1) hx hb dX0_follow_103 (by decide) ?_
            refine lv_goto (tgt := 108) hx hb dX0_follow_104 (by decide) ?_
            exact st_rz E hr hlk (tk, li, ab, un) hw rfl ⟨hI0, st_Ex_rf, True, (st_p1 trivial).symm, fun _ => Or.inr (Or.inr ⟨he, fun q => absurd q hf, fun q => absurd q hg⟩), fun q => absurd trivial q⟩ dX0_follow_108
          · refine lv_aload_n hx hb dX0_follow_94 rfl (lv_at hl 2 rfl) ?_
            refine lv_iload_n hx hb dX0_follow_95 rfl (lv_at hl 3 rfl) ?_
            refine lv_iload_n hx hb dX0_follow_96 rfl (lv_at hl 4 rfl) ?_
            refine st_callT (As := [.int (nI a), .int (nI b)]) (rest := []) E hw (mX0_followFields l D A h ad k T kn tk li ab un ak a b h_a h_b hT hK hI0 hg (he.symm.trans hg)) (lw_V q110 q112 qs6 q16 q113) hdX0_followFields rfl ⟨rfl, rfl⟩ ⟨Nat.le_of_ble_eq_true rfl, Nat.le_of_ble_eq_true rfl⟩ (ci := 0) rfl rfl rfl hl.1 rfl (Nat.le_of_ble_eq_true rfl) dX0_follow_97 (fun r u H locs hp hw => ?_)
            obtain ⟨tk2, li2, ab2, un2⟩ := u
            obtain ⟨p1, p2, P, rfl, p3⟩ := hp
            have hw : st_W D A s.heap (w0 h ad k T (kn, (tk2, li2, ab2, un2), ak)) H locs := hw
            refine st_diaeq (v := st_p P) hx hb dX0_follow_100 dX0_follow_103 dX0_follow_104 dX0_follow_107 (id) (st_p_01) ?_
            exact st_rz E hr hlk (tk2, li2, ab2, un2) hw (st_pz P) ⟨p1, p2, P, rfl, p3⟩ dX0_follow_108
        · refine lv_aload_n hx hb dX0_follow_41 rfl (lv_at hl 2 rfl) ?_
          refine lv_aload_n hx hb dX0_follow_42 rfl (lv_at hl 2 rfl) ?_
          refine st_get0 E hw rfl 1 (by decide) q27 (v := .ref (ad 1)) rfl dX0_follow_43 ?_
          refine lv_iload_n hx hb dX0_follow_46 rfl (lv_at hl 4 rfl) ?_
          refine st_iald E hw 2 0 rfl rfl (i := b) (by omega) (by decide) (v := nI ((tA T) b)) rfl dX0_follow_47 ?_
          refine lv_aload_n hx hb dX0_follow_48 rfl (lv_at hl 2 rfl) ?_
          refine st_get0 E hw rfl 1 (by decide) q27 (v := .ref (ad 1)) rfl dX0_follow_49 ?_
          refine lv_iload_n hx hb dX0_follow_52 rfl (lv_at hl 3 rfl) ?_
          refine st_iald E hw 2 0 rfl rfl (i := a) (by omega) (by decide) (v := nI ((tA T) a)) rfl dX0_follow_53 ?_
          refine st_callT (As := [.int (nI ((tA T) b)), .int (nI ((tA T) a))]) (rest := []) E hw (mX0_ask l D A h ad k T kn tk li ab un ak (tA T b) (tA T a) h_2 h_1 hK hI0) (lw_V q102 q104 qs4 q16 q105) hdX0_ask rfl ⟨rfl, rfl⟩ ⟨Nat.le_of_ble_eq_true rfl, Nat.le_of_ble_eq_true rfl⟩ (ci := 0) rfl rfl rfl hl.1 rfl (Nat.le_of_ble_eq_true rfl) dX0_follow_54 (fun r u H locs hp hw => ?_)
          obtain ⟨tk1, li1, ab1, un1⟩ := u
          obtain ⟨rfl, p1, p2, p3⟩ := hp
          have p4 : st_Ex (st_nd T a b) ak (tk, li, ab, un) (tk1, li1, ab1, un1) := st_Ex_w p2 (fun q e R hr => by rw [e]; exact ((st_rl_inv hc hd hr).2.1 hf).1)
          have hw : st_W D A s.heap (w0 h ad k T (kn, (tk1, li1, ab1, un1), ak)) H locs := hw
          refine lv_istore (lv' := [(5, .int (st_p (kn (tA T b * 16 + tA T a) ≠ 2))), (4, .int (nI ((tS T) b))), (3, .int (nI ((tS T) a))), (0, .ref h), (1, .int (nI a)), (2, .int (nI b))]) hx hb dX0_follow_57 hl (by decide) rfl (fun ls hl => ?_)
          refine lv_iload hx hb dX0_follow_59 (lv_at hl 0 rfl) ?_
          refine st_ifeqp (tgt := 87) hx hb dX0_follow_61 (by decide) (fun hg => ?_) (fun hg => ?_)
          · refine lv_iconst (v := nI 0) hx hb dX0_follow_87 (by decide) ?_
            exact st_rz E hr hlk (tk1, li1, ab1, un1) hw rfl ⟨p1, p4, False, (st_p0 id).symm, fun q => q.elim, fun _ R hR hr => hR _ (Classical.not_not.mp hg) ((st_rl_inv hc hd hr).2.1 hf).1⟩ dX0_follow_88
          · refine lv_aload_n hx hb dX0_follow_64 rfl (lv_at hl 3 rfl) ?_
            refine lv_aload_n hx hb dX0_follow_65 rfl (lv_at hl 3 rfl) ?_
            refine st_get0 E hw rfl 2 (by decide) q28 (v := .ref (ad 2)) rfl dX0_follow_66 ?_
            refine lv_iload_n hx hb dX0_follow_69 rfl (lv_at hl 4 rfl) ?_
            refine st_iald E hw 3 0 rfl rfl (i := a) (by omega) (by decide) (v := nI ((tR T) a)) rfl dX0_follow_70 ?_
            refine lv_aload_n hx hb dX0_follow_71 rfl (lv_at hl 3 rfl) ?_
            refine st_get0 E hw rfl 2 (by decide) q28 (v := .ref (ad 2)) rfl dX0_follow_72 ?_
            refine lv_iload_n hx hb dX0_follow_75 rfl (lv_at hl 5 rfl) ?_
            refine st_iald E hw 3 0 rfl rfl (i := b) (by omega) (by decide) (v := nI ((tR T) b)) rfl dX0_follow_76 ?_
            refine st_callT (As := [.int (nI ((tR T) a)), .int (nI ((tR T) b))]) (rest := []) E hw (mX0_ask l D A h ad k T kn tk1 li1 ab1 un1 ak (tR T a) (tR T b) h_3 h_4 hK p1) (lw_V q102 q104 qs4 q16 q105) hdX0_ask rfl ⟨rfl, rfl⟩ ⟨Nat.le_of_ble_eq_true rfl, Nat.le_of_ble_eq_true rfl⟩ (ci := 0) rfl rfl rfl hl.1 rfl (Nat.le_of_ble_eq_true rfl) dX0_follow_77 (fun r u H locs hp hw => ?_)
            obtain ⟨tk2, li2, ab2, un2⟩ := u
            obtain ⟨rfl, r1, r2, r3⟩ := hp
            have hw : st_W D A s.heap (w0 h ad k T (kn, (tk2, li2, ab2, un2), ak)) H locs := hw
            refine st_diaeq (v := st_p (kn (tR T a * 16 + tR T b) ≠ 2)) hx hb dX0_follow_80 dX0_follow_83 dX0_follow_84 dX0_follow_87 (id) (st_p_01) ?_
            have r4 := st_Ex_tr p4 r2 (fun q h => h) (fun q e R hr => by rw [e]; exact ((st_rl_inv hc hd hr).2.1 hf).2)
            exact st_rz E hr hlk (tk2, li2, ab2, un2) hw (st_pz _) ⟨r1, r4, _, rfl, fun hP => Or.inr (Or.inr ⟨he, fun _ => ⟨(p3 hg).imp_left (fun z => (r2.2.2.1 _ z).1), r3 hP⟩, fun q => absurd (hf.symm.trans q) (by decide)⟩), fun hP R hR hr => hR _ (Classical.not_not.mp hP) ((st_rl_inv hc hd hr).2.1 hf).2⟩ dX0_follow_88
      · refine lv_iconst (v := nI 0) hx hb dX0_follow_34 (by decide) ?_
        exact st_rz E hr hlk (tk, li, ab, un) hw rfl ⟨hI0, st_Ex_rf, False, (st_p0 id).symm, fun q => q.elim, fun _ R _ hr => he (st_rl_inv hc hd hr).1⟩ dX0_follow_35
    · refine lv_iconst (v := nI 1) hx hb dX0_follow_26 (by decide) ?_
      exact st_rz E hr hlk (tk, li, ab, un) hw rfl ⟨hI0, st_Ex_rf, True, (st_p1 trivial).symm, fun _ => Or.inr (Or.inl hd), fun q => absurd trivial q⟩ dX0_follow_27
set_option maxHeartbeats 4000000 in
set_option maxRecDepth 100000 in
/-- decide(a, b) -/
theorem mX0_decide (l : Launch) (D : va_G) (A : Nat → Prop) (h : Nat) (ad : Nat → Nat) (k : Nat → ClassId) (T : TT) (kn : Nat → Nat) (tk : Nat) (li : Nat → Nat) (ab : Nat → Option Nat) (un : Nat → Bool) (ak : Option Nat) (a b : Nat) (h_a : a < 16) (h_b : b < 16) (hT : st_wf T) (hK : st_KI T kn) (h_0 : kn (a * 16 + b) = 0) : Met l yX0_decide (ws_ yX0_decide cX0_decide 5 (some .boolean)) ({ frames := 3, cells := 0, slots := 0, locals := 74 }) (va_Pc [.ref h, .int (nI a), .int (nI b)] (st_I D A (w0 h ad k T (kn, (tk, li, ab, un), ak)) (ty0 k))) (va_Qi (fun (r : Int32) (u : S0) => r = st_p (st_Sb T (a * 16 + b)) ∧ st_KI T u.1) (fun u t => st_I D A (w0 h ad k T u) (ty0 k) t) A) 0 0 A := by
  refine st_start (by decide) (Nat.le_of_ble_eq_true rfl) (fun p e s m below meth c E hr hlk hw ls hl => ?_)
  have hx := E.1
  have hb := E.2.1
  have E : st_E p s m c cX0_decide 5 _ RX0 D (ty0 k) := E
  have hl : lv_has ls 5 [(0, .ref h), (1, .int (nI a)), (2, .int (nI b))] := hl
  refine lv_aload_n hx hb dX0_decide_0 rfl (lv_at hl 0 rfl) ?_
  refine lv_iconst (v := nI 0) hx hb dX0_decide_1 (by decide) ?_
  refine st_put0 E hw rfl 6 (by decide) q32 rfl .int (by decide +kernel) rfl rfl (Nat.le_of_ble_eq_true rfl) dX0_decide_2 (fun H locs (hw : st_W D A s.heap (w0 h ad k T (kn, (0, li, ab, un), ak)) H locs) => ?_)
  refine lv_aload_n hx hb dX0_decide_5 rfl (lv_at hl 0 rfl) ?_
  refine lv_iconst (v := st_o none) hx hb dX0_decide_6 (by decide) ?_
  refine st_put0 E hw rfl 10 (by decide) q36 rfl .int (by decide +kernel) rfl rfl (Nat.le_of_ble_eq_true rfl) dX0_decide_7 (fun H locs (hw : st_W D A s.heap (w0 h ad k T (kn, (0, li, ab, un), none)) H locs) => ?_)
  refine lv_iconst (v := nI 0) hx hb dX0_decide_10 (by decide) ?_
  refine lv_istore_n (lv' := [(3, .int (nI 0)), (0, .ref h), (1, .int (nI a)), (2, .int (nI b))]) hx hb dX0_decide_11 rfl hl (by decide) rfl (fun ls hl => ?_)
  have hw : st_W D A s.heap (w0 h ad k T (kn, (0, li, ab, st_fl false un 0), none)) H locs := by rw [st_fl_0]; exact hw
  refine st_loop (σ := Nat) (fun x H locs ls => st_W D A s.heap (w0 h ad k T (kn, (0, li, ab, st_fl false un x), none)) H locs ∧ lv_has ls 5 [(0, .ref h), (1, .int (nI a)), (2, .int (nI b)), (3, .int (nI x))] ∧ x ≤ 256) (fun x => 257 - x) (fun i H locs ls hJ ih => ?_) 0 ⟨hw, lv_sub hl [1, 2, 3, 0] rfl, by omega⟩
  have hw : st_W D A s.heap (w0 h ad k T (kn, (0, li, ab, st_fl false un i), none)) H locs := hJ.1
  have hl : lv_has ls 5 [(0, .ref h), (1, .int (nI a)), (2, .int (nI b)), (3, .int (nI i))] := hJ.2.1
  have hI : i ≤ 256 := hJ.2.2
  clear hJ
  refine lv_iload_n hx hb dX0_decide_12 rfl (lv_at hl 3 rfl) ?_
  refine lv_sipush (v := nI 256) hx hb dX0_decide_13 (by decide) ?_
  refine st_icge (tgt := 32) hx hb dX0_decide_16 (by decide) (by omega) (by omega) (fun hc => ?_) (fun hc => ?_)
  · have hw := hw.norm 9 rfl (fun j => st_b ((fun _ => false : Nat → Bool) j)) (fun j hj => by show st_b (st_fl false un i j) = st_b false; rw [st_fl_e (by omega)])
    have hw : st_W D A s.heap (w0 h ad k T (kn, (0, li, ab, fun _ => false), none)) H locs := hw
    refine lv_aload_n hx hb dX0_decide_32 rfl (lv_at hl 0 rfl) ?_
    refine lv_iload_n hx hb dX0_decide_33 rfl (lv_at hl 1 rfl) ?_
    refine lv_iload_n hx hb dX0_decide_34 rfl (lv_at hl 2 rfl) ?_
    refine st_callT (As := [.int (nI a), .int (nI b)]) (rest := []) E hw (mX0_ask l D A h ad k T kn 0 li ab (fun _ => false) none a b h_a h_b (fun q => (hK q).2.2) st_SI_0) (lw_V q102 q104 qs4 q16 q105) hdX0_ask rfl ⟨rfl, rfl⟩ ⟨Nat.le_of_ble_eq_true rfl, Nat.le_of_ble_eq_true rfl⟩ (ci := 0) rfl rfl rfl hl.1 rfl (Nat.le_of_ble_eq_true rfl) dX0_decide_35 (fun r u H locs hp hw => ?_)
    obtain ⟨tk0, li0, ab0, un0⟩ := u
    obtain ⟨rfl, p1, p2, p3⟩ := hp
    have h_ne : kn (a * 16 + b) ≠ 2 := by rw [h_0]; decide
    have h_un : un0 (a * 16 + b) = true := (p3 h_ne).elim id (fun q => by rw [h_0] at q; cases q)
    have hw : st_W D A s.heap (w0 h ad k T (kn, (tk0, li0, ab0, un0), none)) H locs := hw
    refine st_top (y := st_b true) (st_p1 h_ne) ?_
    refine lv_istore_n (lv' := [(3, .int (st_b true)), (0, .ref h), (1, .int (nI a)), (2, .int (nI b))]) hx hb dX0_decide_38 rfl hl (by decide) rfl (fun ls hl => ?_)
    refine lv_iconst (v := nI 0) hx hb dX0_decide_39 (by decide) ?_
    refine lv_istore (lv' := [(4, .int (nI 0)), (3, .int (st_b true)), (0, .ref h), (1, .int (nI a)), (2, .int (nI b))]) hx hb dX0_decide_40 hl (by decide) rfl (fun ls hl => ?_)
    have h_iv := st_IV_0 (T := T) (kn := kn) p1 p2 h_un
    have h_le := st_SI_le p1
    refine st_loop (σ := Nat × Bool × (Nat → Nat) × Nat × (Nat → Nat) × (Nat → Option Nat) × (Nat → Bool) × Option Nat) (fun x H locs ls => st_W D A s.heap (w0 h ad k T (x.2.2.1, (x.2.2.2.1, x.2.2.2.2.1, x.2.2.2.2.2.1, x.2.2.2.2.2.2.1), x.2.2.2.2.2.2.2)) H locs ∧ lv_has ls 5 [(0, .ref h), (1, .int (nI a)), (2, .int (nI b)), (3, .int (st_b x.2.1)), (4, .int (nI x.1))] ∧ (x.1 ≤ 256 ∧ x.2.2.2.1 ≤ 256 ∧ st_KI T x.2.2.1 ∧ (x.2.1 = true → st_IV T x.2.2.1 (a * 16 + b) (x.2.2.2.1, x.2.2.2.2.1, x.2.2.2.2.2.1, x.2.2.2.2.2.2.1) x.1) ∧ (x.2.1 = false → ¬ st_Sb T (a * 16 + b)))) (fun x => 257 - x.1) (fun x H locs ls hJ ih2 => ?_) (0, true, kn, tk0, li0, ab0, un0, none) ⟨hw, lv_sub hl [2, 3, 4, 1, 0] rfl, ⟨by omega, h_le, hK, fun _ => h_iv, fun q => by cases q⟩⟩
    obtain ⟨i, gd, kn1, tk1, li1, ab1, un1, ak1⟩ := x
    have hw : st_W D A s.heap (w0 h ad k T (kn1, (tk1, li1, ab1, un1), ak1)) H locs := hJ.1
    have hl : lv_has ls 5 [(0, .ref h), (1, .int (nI a)), (2, .int (nI b)), (3, .int (st_b gd)), (4, .int (nI i))] := hJ.2.1
    have hI2 : (i ≤ 256 ∧ tk1 ≤ 256 ∧ st_KI T kn1 ∧ (gd = true → st_IV T kn1 (a * 16 + b) (tk1, li1, ab1, un1) i) ∧ (gd = false → ¬ st_Sb T (a * 16 + b))) := hJ.2.2
    clear hJ
    obtain ⟨i1, i2, i3, i4, i5⟩ := hI2
    refine lv_iload hx hb dX0_decide_42 (lv_at hl 4 rfl) ?_
    refine lv_aload_n hx hb dX0_decide_44 rfl (lv_at hl 0 rfl) ?_
    refine st_get0 E hw rfl 6 (by decide) q32 (v := .int (nI tk1)) rfl dX0_decide_45 ?_
    refine st_icge (tgt := 112) hx hb dX0_decide_48 (by decide) (by omega) (by omega) (fun hc => ?_) (fun hc => ?_)
    · rcases gd with _ | _
      · have h_f := i5 rfl
        refine lv_iconst (v := nI 0) hx hb dX0_decide_112 (by decide) ?_
        refine lv_istore (lv' := [(4, .int (nI 0)), (0, .ref h), (1, .int (nI a)), (2, .int (nI b)), (3, .int (st_b false))]) hx hb dX0_decide_113 hl (by decide) rfl (fun ls hl => ?_)
        refine lv_iload hx hb dX0_decide_115 (lv_at hl 0 rfl) ?_
        refine lv_aload_n hx hb dX0_decide_117 rfl (lv_at hl 1 rfl) ?_
        refine st_get0 E hw rfl 6 (by decide) q32 (v := .int (nI tk1)) rfl dX0_decide_118 ?_
        refine st_icge (tgt := 147) hx hb dX0_decide_121 (by decide) (by omega) (by omega) (fun hz => ?_) (fun hz => ?_)
        · refine lv_iload_n hx hb dX0_decide_147 rfl (lv_at hl 4 rfl) ?_
          exact st_rz E hr hlk (kn1, (tk1, li1, ab1, un1), ak1) hw rfl ⟨(st_p0 h_f).symm, i3⟩ dX0_decide_148
        · refine lv_iload_n hx hb dX0_decide_124 rfl (lv_at hl 4 rfl) ?_
          refine st_ifeqb (tgt := 147) hx hb dX0_decide_125 (by decide) (fun hg => ?_) (fun hg => ?_)
          · refine lv_iload_n hx hb dX0_decide_147 rfl (lv_at hl 4 rfl) ?_
            exact st_rz E hr hlk (kn1, (tk1, li1, ab1, un1), ak1) hw rfl ⟨(st_p0 h_f).symm, i3⟩ dX0_decide_148
          · cases hg
      · have h_iv := i4 rfl
        have h_all := st_IV_e i3 h_iv hc
        refine lv_iconst (v := nI 0) hx hb dX0_decide_112 (by decide) ?_
        refine lv_istore (lv' := [(4, .int (nI 0)), (0, .ref h), (1, .int (nI a)), (2, .int (nI b)), (3, .int (st_b true))]) hx hb dX0_decide_113 hl (by decide) rfl (fun ls hl => ?_)
        refine st_loop (σ := Nat × (Nat → Nat)) (fun x H locs ls => st_W D A s.heap (w0 h ad k T (x.2, (tk1, li1, ab1, un1), ak1)) H locs ∧ lv_has ls 5 [(0, .ref h), (1, .int (nI a)), (2, .int (nI b)), (3, .int (st_b true)), (4, .int (nI x.1))] ∧ (x.1 ≤ 256 ∧ st_KI T x.2)) (fun x => 257 - x.1) (fun x H locs ls hJ ih3 => ?_) (0, kn1) ⟨hw, lv_sub hl [1, 2, 3, 4, 0] rfl, ⟨by omega, i3⟩⟩
        obtain ⟨i3b, kn3⟩ := x
        have hw : st_W D A s.heap (w0 h ad k T (kn3, (tk1, li1, ab1, un1), ak1)) H locs := hJ.1
        have hl : lv_has ls 5 [(0, .ref h), (1, .int (nI a)), (2, .int (nI b)), (3, .int (st_b true)), (4, .int (nI i3b))] := hJ.2.1
        have hI3 : (i3b ≤ 256 ∧ st_KI T kn3) := hJ.2.2
        clear hJ
        refine lv_iload hx hb dX0_decide_115 (lv_at hl 4 rfl) ?_
        refine lv_aload_n hx hb dX0_decide_117 rfl (lv_at hl 0 rfl) ?_
        refine st_get0 E hw rfl 6 (by decide) q32 (v := .int (nI tk1)) rfl dX0_decide_118 ?_
        refine st_icge (tgt := 147) hx hb dX0_decide_121 (by decide) (by omega) (by omega) (fun hz => ?_) (fun hz => ?_)
        · refine lv_iload_n hx hb dX0_decide_147 rfl (lv_at hl 3 rfl) ?_
          exact st_rz E hr hlk (kn3, (tk1, li1, ab1, un1), ak1) hw rfl ⟨(st_p1 (h_all _ h_iv.2.1)).symm, hI3.2⟩ dX0_decide_148
        · refine lv_iload_n hx hb dX0_decide_124 rfl (lv_at hl 3 rfl) ?_
          refine st_ifeqb (tgt := 147) hx hb dX0_decide_125 (by decide) (fun hg => ?_) (fun hg => ?_)
          · cases hg
          · have h_u := h_iv.1.2.2 i3b hz
            have h_m : li1 i3b < 256 := (h_iv.1.2.1 _ h_u).1
            refine lv_aload_n hx hb dX0_decide_128 rfl (lv_at hl 0 rfl) ?_
            refine st_get0 E hw rfl 5 (by decide) q31 (v := .ref (ad 5)) rfl dX0_decide_129 ?_
            refine lv_aload_n hx hb dX0_decide_132 rfl (lv_at hl 0 rfl) ?_
            refine st_get0 E hw rfl 7 (by decide) q33 (v := .ref (ad 6)) rfl dX0_decide_133 ?_
            refine lv_iload hx hb dX0_decide_136 (lv_at hl 4 rfl) ?_
            refine st_iald E hw 7 0 rfl rfl (i := i3b) (by omega) (by decide) (v := nI (li1 i3b)) rfl dX0_decide_138 ?_
            refine lv_iconst (v := nI 1) hx hb dX0_decide_139 (by decide) ?_
            refine st_bast E hw 6 2 rfl rfl (i := li1 i3b) (by omega) (by decide) (nI 1) (st_ny1) (fun j => nI ((va_up kn3 (li1 i3b) 1) j)) (fun j => st_up nI _ _ 1 j) dX0_decide_140 (fun H locs (hw : st_W D A s.heap (w0 h ad k T (va_up kn3 (li1 i3b) 1, (tk1, li1, ab1, un1), ak1)) H locs) => ?_)
            refine lv_iinc (v := nI (i3b + 1)) (lv' := [(4, .int (nI (i3b + 1))), (0, .ref h), (1, .int (nI a)), (2, .int (nI b)), (3, .int (st_b true))]) hx hb dX0_decide_141 hl (k := 4) rfl (st_inc _) (by decide) rfl (fun ls hl => ?_)
            refine lv_goto (tgt := 115) hx hb dX0_decide_144 (by decide) ?_
            exact ih3 (i3b + 1, va_up kn3 (li1 i3b) 1) _ _ _ ⟨hw, lv_sub hl [1, 2, 3, 4, 0] rfl, ⟨by omega, st_KI_1 hI3.2 (h_all _ h_u)⟩⟩ (by show 257 - (i3b + 1) < 257 - i3b; omega)
    · refine lv_iload_n hx hb dX0_decide_51 rfl (lv_at hl 3 rfl) ?_
      refine st_ifeqb (tgt := 112) hx hb dX0_decide_52 (by decide) (fun hd => ?_) (fun hd => ?_)
      · subst hd
        have h_f := i5 rfl
        refine lv_iconst (v := nI 0) hx hb dX0_decide_112 (by decide) ?_
        refine lv_istore (lv' := [(4, .int (nI 0)), (0, .ref h), (1, .int (nI a)), (2, .int (nI b)), (3, .int (st_b false))]) hx hb dX0_decide_113 hl (by decide) rfl (fun ls hl => ?_)
        refine lv_iload hx hb dX0_decide_115 (lv_at hl 0 rfl) ?_
        refine lv_aload_n hx hb dX0_decide_117 rfl (lv_at hl 1 rfl) ?_
        refine st_get0 E hw rfl 6 (by decide) q32 (v := .int (nI tk1)) rfl dX0_decide_118 ?_
        refine st_icge (tgt := 147) hx hb dX0_decide_121 (by decide) (by omega) (by omega) (fun hz => ?_) (fun hz => ?_)
        · refine lv_iload_n hx hb dX0_decide_147 rfl (lv_at hl 4 rfl) ?_
          exact st_rz E hr hlk (kn1, (tk1, li1, ab1, un1), ak1) hw rfl ⟨(st_p0 h_f).symm, i3⟩ dX0_decide_148
        · refine lv_iload_n hx hb dX0_decide_124 rfl (lv_at hl 4 rfl) ?_
          refine st_ifeqb (tgt := 147) hx hb dX0_decide_125 (by decide) (fun hg => ?_) (fun hg => ?_)
          · refine lv_iload_n hx hb dX0_decide_147 rfl (lv_at hl 4 rfl) ?_
            exact st_rz E hr hlk (kn1, (tk1, li1, ab1, un1), ak1) hw rfl ⟨(st_p0 h_f).symm, i3⟩ dX0_decide_148
          · cases hg
      · subst hd
        have h_iv := i4 rfl
        have h_u := h_iv.1.2.2 i hc
        have h_l : li1 i < 256 := (h_iv.1.2.1 _ h_u).1
        refine lv_aload_n hx hb dX0_decide_55 rfl (lv_at hl 0 rfl) ?_
        refine lv_aload_n hx hb dX0_decide_56 rfl (lv_at hl 0 rfl) ?_
        refine st_get0 E hw rfl 7 (by decide) q33 (v := .ref (ad 6)) rfl dX0_decide_57 ?_
        refine lv_iload hx hb dX0_decide_60 (lv_at hl 4 rfl) ?_
        refine st_iald E hw 7 0 rfl rfl (i := i) (by omega) (by decide) (v := nI (li1 i)) rfl dX0_decide_62 ?_
        refine st_put0 E hw rfl 10 (by decide) q36 rfl .int (by decide +kernel) rfl rfl (Nat.le_of_ble_eq_true rfl) dX0_decide_63 (fun H locs (hw : st_W D A s.heap (w0 h ad k T (kn1, (tk1, li1, ab1, un1), some (li1 i))) H locs) => ?_)
        refine lv_aload_n hx hb dX0_decide_66 rfl (lv_at hl 0 rfl) ?_
        refine lv_aload_n hx hb dX0_decide_67 rfl (lv_at hl 0 rfl) ?_
        refine st_get0 E hw rfl 7 (by decide) q33 (v := .ref (ad 6)) rfl dX0_decide_68 ?_
        refine lv_iload hx hb dX0_decide_71 (lv_at hl 4 rfl) ?_
        refine st_iald E hw 7 0 rfl rfl (i := i) (by omega) (by decide) (v := nI (li1 i)) rfl dX0_decide_73 ?_
        refine lv_bipush (v := nI 16) hx hb dX0_decide_74 (by decide) ?_
        refine st_idiv hx hb (by omega) (by decide) (by decide) dX0_decide_76 ?_
        refine lv_aload_n hx hb dX0_decide_77 rfl (lv_at hl 0 rfl) ?_
        refine st_get0 E hw rfl 7 (by decide) q33 (v := .ref (ad 6)) rfl dX0_decide_78 ?_
        refine lv_iload hx hb dX0_decide_81 (lv_at hl 4 rfl) ?_
        refine st_iald E hw 7 0 rfl rfl (i := i) (by omega) (by decide) (v := nI (li1 i)) rfl dX0_decide_83 ?_
        refine lv_bipush (v := nI 16) hx hb dX0_decide_84 (by decide) ?_
        refine st_irem hx hb (by omega) (by decide) (by decide) dX0_decide_86 ?_
        refine st_callT (As := [.int (nI ((li1 i) / 16)), .int (nI ((li1 i) % 16))]) (rest := []) E hw (mX0_follow l D A h ad k T kn1 tk1 li1 ab1 un1 (some (li1 i)) (li1 i / 16) (li1 i % 16) (by omega) (by omega) hT (fun q => (i3 q).2.2) h_iv.1) (lw_V q106 q108 qs5 q16 q109) hdX0_follow rfl ⟨rfl, rfl⟩ ⟨Nat.le_of_ble_eq_true rfl, Nat.le_of_ble_eq_true rfl⟩ (ci := 0) rfl rfl rfl hl.1 rfl (Nat.le_of_ble_eq_true rfl) dX0_decide_87 (fun r u H locs hp hw => ?_)
        obtain ⟨tk2, li2, ab2, un2⟩ := u
        obtain ⟨p1, p2, P, rfl, p3, p4⟩ := hp
        have hw : st_W D A s.heap (w0 h ad k T (kn1, (tk2, li2, ab2, un2), some (li1 i))) H locs := hw
        have h_l2 := st_SI_le p1
        refine lv_istore_n (lv' := [(3, .int (st_p P)), (0, .ref h), (1, .int (nI a)), (2, .int (nI b)), (4, .int (nI i))]) hx hb dX0_decide_90 rfl hl (by decide) rfl (fun ls hl => ?_)
        refine lv_iload_n hx hb dX0_decide_91 rfl (lv_at hl 0 rfl) ?_
        refine st_ifnep (tgt := 106) hx hb dX0_decide_92 (by decide) (fun hP => ?_) (fun hP => ?_)
        · rw [st_p1 hP] at hl
          have hl : lv_has ls 5 [(3, .int (st_b true)), (0, .ref h), (1, .int (nI a)), (2, .int (nI b)), (4, .int (nI i))] := hl
          refine lv_iinc (v := nI (i + 1)) (lv' := [(4, .int (nI (i + 1))), (3, .int (st_b true)), (0, .ref h), (1, .int (nI a)), (2, .int (nI b))]) hx hb dX0_decide_106 hl (k := 4) rfl (st_inc _) (by decide) rfl (fun ls hl => ?_)
          refine lv_goto (tgt := 42) hx hb dX0_decide_109 (by decide) ?_
          exact ih2 (i + 1, true, kn1, tk2, li2, ab2, un2, some (li1 i)) _ _ _ ⟨hw, lv_sub hl [2, 3, 4, 1, 0] rfl, ⟨by omega, h_l2, i3, fun _ => st_IV_s h_iv hc p1 p2 (p3 hP), fun q => by cases q⟩⟩ (by show 257 - (i + 1) < 257 - i; omega)
        · obtain ⟨f1, f2, f3, f4, f5, f6⟩ := st_IV_f i3 h_iv hc p1 p2 (p4 hP)
          have f1 : li2 i = li1 i := f1
          rw [st_p0 hP] at hl
          have hl : lv_has ls 5 [(3, .int (st_b false)), (0, .ref h), (1, .int (nI a)), (2, .int (nI b)), (4, .int (nI i))] := hl
          refine lv_aload_n hx hb dX0_decide_95 rfl (lv_at hl 1 rfl) ?_
          refine lv_aload_n hx hb dX0_decide_96 rfl (lv_at hl 1 rfl) ?_
          refine st_get0 E hw rfl 7 (by decide) q33 (v := .ref (ad 6)) rfl dX0_decide_97 ?_
          refine lv_iload hx hb dX0_decide_100 (lv_at hl 4 rfl) ?_
          refine st_iald E hw 7 0 rfl rfl (i := i) (by omega) (by decide) (v := nI (li2 i)) rfl dX0_decide_102 ?_
          refine st_callTv (As := [.int (nI (li2 i))]) (rest := []) E hw (mX0_refute l D A h ad k T kn1 tk2 li2 ab2 un2 (some (li1 i)) (li2 i) i3 p1 f6 (by rw [f1]; exact f3) (by rw [f1]; exact f4)) (lw_V q114 q116 qs7 q16 q117) hdX0_refute rfl ⟨rfl, rfl⟩ ⟨Nat.le_of_ble_eq_true rfl, Nat.le_of_ble_eq_true rfl⟩ (ci := 0) rfl rfl rfl hl.1 rfl (Nat.le_of_ble_eq_true rfl) dX0_decide_103 (fun kn2 H locs hp hw => ?_)
          have hw : st_W D A s.heap (w0 h ad k T (kn2, (tk2, li2, ab2, un2), some (li1 i))) H locs := hw
          refine lv_iinc (v := nI (i + 1)) (lv' := [(4, .int (nI (i + 1))), (3, .int (st_b false)), (0, .ref h), (1, .int (nI a)), (2, .int (nI b))]) hx hb dX0_decide_106 hl (k := 4) rfl (st_inc _) (by decide) rfl (fun ls hl => ?_)
          refine lv_goto (tgt := 42) hx hb dX0_decide_109 (by decide) ?_
          exact ih2 (i + 1, false, kn2, tk2, li2, ab2, un2, some (li1 i)) _ _ _ ⟨hw, lv_sub hl [2, 3, 4, 1, 0] rfl, ⟨by omega, h_l2, hp, (fun q => by cases q), fun _ => f5⟩⟩ (by show 257 - (i + 1) < 257 - i; omega)
  · refine lv_aload_n hx hb dX0_decide_19 rfl (lv_at hl 0 rfl) ?_
    refine st_get0 E hw rfl 9 (by decide) q35 (v := .ref (ad 8)) rfl dX0_decide_20 ?_
    refine lv_iload_n hx hb dX0_decide_23 rfl (lv_at hl 3 rfl) ?_
    refine lv_iconst (v := nI 0) hx hb dX0_decide_24 (by decide) ?_
    refine st_zast E hw 9 1 rfl rfl (i := i) (by omega) (by decide) (st_b false) (st_nb false) (fun j => st_b ((st_fl false un (i + 1)) j)) (fun j => st_fl_s st_b j) dX0_decide_25 (fun H locs (hw : st_W D A s.heap (w0 h ad k T (kn, (0, li, ab, st_fl false un (i + 1)), none)) H locs) => ?_)
    refine lv_iinc (v := nI (i + 1)) (lv' := [(3, .int (nI (i + 1))), (0, .ref h), (1, .int (nI a)), (2, .int (nI b))]) hx hb dX0_decide_26 hl (k := 3) rfl (st_inc _) (by decide) rfl (fun ls hl => ?_)
    refine lv_goto (tgt := 12) hx hb dX0_decide_29 (by decide) ?_
    exact ih (i + 1) _ _ _ ⟨hw, lv_sub hl [1, 2, 3, 0] rfl, by omega⟩ (by show 257 - (i + 1) < 257 - i; omega)
end
section
/-! what the public methods answer, and what becomes of the types (0: the class, 1: the model) -/
noncomputable def st_suR (T : TT) (x y : Int32) : Int32 := match st_ty x with
  | none => 0
  | some a => match st_ty y with
    | none => 0
    | some b => st_p (st_Sb T (a * 16 + b))
noncomputable def st_eqR (T : TT) (x y : Int32) : Int32 := match st_ty x with
  | none => 0
  | some a => match st_ty y with
    | none => 0
    | some b => st_p (st_eq T a b)
noncomputable def st_sbR (T : TT) (x : Int32) : Int32 := match st_ty x with
  | none => -1
  | some t => st_msk (fun s => st_Sb T (s * 16 + t)) 16
noncomputable def st_kdR (T : TT) : Int32 := nI (st_cn (fun t => st_nw T t t) 16)
noncomputable def st_urR (T : TT) : Int32 := nI (st_sum (fun t => st_cn (fun s => st_ur T s t) t) 16)
def st_soR (T : TT) (x : Int32) : Int32 := match st_ty x with
  | none => -1
  | some a => nI (tS T a)
def st_shR (T : TT) (x y : Int32) : Int32 := match st_ty x with
  | none => -1
  | some a => match st_sc y with
    | none => -4
    | some _ => nI (tS T a)
def st_shT0 (T : TT) (x y : Int32) : TT := match st_ty x with
  | none => T
  | some a => match st_sc y with
    | none => T
    | some b => (va_up (tS T) a b, tA T, tR T, st_cl none (tF T) a 4, st_cl false (tO T) a 4)
def st_shT1 (T : TT) (x y : Int32) : TT := match st_ty x with
  | none => T
  | some a => match st_sc y with
    | none => T
    | some b => (va_up (tS T) a b, tA T, tR T, st_cl none (tF T) a 4, tO T)
def st_fnR (T : TT) (x y z : Int32) : Int32 := match st_ty x with
  | none => -1
  | some a => match st_ty y with
    | none => -1
    | some _ => match st_ty z with
      | none => -1
      | some _ => nI (tS T a)
def st_fnT0 (T : TT) (x y z : Int32) : TT := match st_ty x with
  | none => T
  | some a => match st_ty y with
    | none => T
    | some b => match st_ty z with
      | none => T
      | some d => (va_up (tS T) a 4, va_up (tA T) a b, va_up (tR T) a d, st_cl none (tF T) a 4, st_cl false (tO T) a 4)
def st_fnT1 (T : TT) (x y z : Int32) : TT := match st_ty x with
  | none => T
  | some a => match st_ty y with
    | none => T
    | some b => match st_ty z with
      | none => T
      | some d => (va_up (tS T) a 4, va_up (tA T) a b, va_up (tR T) a d, tF T, tO T)
def st_had (o : Option Nat) : Int32 := match o with
  | none => 0
  | some _ => 1
theorem st_had0 {o : Option Nat} (ho : ∀ k, o = some k → k < 2 ^ 31) (h : st_o o < 0) : st_had o = 0 := by
  cases o with
  | none => rfl
  | some k => exact absurd h (nI_pos (ho k rfl))
theorem st_had1 {o : Option Nat} (h : ¬ st_o o < 0) : st_had o = 1 := by
  cases o with
  | none => exact absurd (show st_o none < 0 by decide) h
  | some k => rfl
theorem st_bd0 {w : Int32} (h : w = 0) : st_b (decide (w ≠ 0)) = 0 := by
  rw [decide_eq_false (fun q => q h)]; rfl
theorem st_bd1 {w : Int32} (h : ¬ w = 0) : st_b (decide (w ≠ 0)) = 1 := by
  rw [decide_eq_true h]; rfl
def st_set (T : TT) (j : Nat) (o : Option Nat) (b : Bool) : TT := (tS T, tA T, tR T, va_up (tF T) j o, va_up (tO T) j b)
def st_fdR (T : TT) (x y z : Int32) : Int32 := match st_ty x with
  | none => -1
  | some a => match st_ty z with
    | none => -1
    | some _ => match st_lb y with
      | none => -2
      | some l => if tS T a = 5 then st_had (tF T (a * 4 + l)) else -3
def st_fdT (T : TT) (x y z w : Int32) : TT := match st_ty x with
  | none => T
  | some a => match st_ty z with
    | none => T
    | some d => match st_lb y with
      | none => T
      | some l => if tS T a = 5 then st_set T (a * 4 + l) (some d) (decide (w ≠ 0)) else T
def st_dpR (T : TT) (x y : Int32) : Int32 := match st_ty x with
  | none => -1
  | some a => match st_lb y with
    | none => -2
    | some l => if tS T a = 5 then st_had (tF T (a * 4 + l)) else -3
def st_dpT (T : TT) (x y : Int32) : TT := match st_ty x with
  | none => T
  | some a => match st_lb y with
    | none => T
    | some l => if tS T a = 5 then st_set T (a * 4 + l) none false else T
end
section
/-! StructuralTypes: the questions -/
set_option maxHeartbeats 4000000 in
set_option maxRecDepth 100000 in
/-- isSubtype(a, b) -/
theorem mX0_isSubtype (l : Launch) (D : va_G) (A : Nat → Prop) (h : Nat) (ad : Nat → Nat) (k : Nat → ClassId) (T : TT) (kn : Nat → Nat) (g : Sr) (ak : Option Nat) (a b : Nat) (h_a : a < 16) (h_b : b < 16) (hT : st_wf T) (hK : st_KI T kn) : Met l yX0_isSubtype (ws_ yX0_isSubtype cX0_isSubtype 4 (some .boolean)) ({ frames := 4, cells := 0, slots := 0, locals := 98 }) (va_Pc [.ref h, .int (nI a), .int (nI b)] (st_I D A (w0 h ad k T (kn, g, ak)) (ty0 k))) (va_Qi (fun (r : Int32) (u : S0) => r = st_p (st_Sb T (a * 16 + b)) ∧ st_KI T u.1) (fun u t => st_I D A (w0 h ad k T u) (ty0 k) t) A) 0 0 A := by
  refine st_start (by decide) (Nat.le_of_ble_eq_true rfl) (fun p e s m below meth c E hr hlk hw ls hl => ?_)
  have hx := E.1
  have hb := E.2.1
  have E : st_E p s m c cX0_isSubtype 4 _ RX0 D (ty0 k) := E
  have hl : lv_has ls 4 [(0, .ref h), (1, .int (nI a)), (2, .int (nI b))] := hl
  have h_k := (hK (a * 16 + b)).2.2
  refine lv_aload_n hx hb dX0_isSubtype_0 rfl (lv_at hl 0 rfl) ?_
  refine st_get0 E hw rfl 5 (by decide) q31 (v := .ref (ad 5)) rfl dX0_isSubtype_1 ?_
  refine lv_iload_n hx hb dX0_isSubtype_4 rfl (lv_at hl 1 rfl) ?_
  refine lv_bipush (v := nI 16) hx hb dX0_isSubtype_5 (by decide) ?_
  refine st_imul hx hb dX0_isSubtype_7 ?_
  refine lv_iload_n hx hb dX0_isSubtype_8 rfl (lv_at hl 2 rfl) ?_
  refine st_iadd hx hb dX0_isSubtype_9 ?_
  refine st_bald E hw 6 2 rfl rfl (i := a * 16 + b) (by omega) (by decide) (v := nI (kn (a * 16 + b))) rfl dX0_isSubtype_10 ?_
  refine lv_istore_n (lv' := [(3, .int (nI (kn (a * 16 + b)))), (0, .ref h), (1, .int (nI a)), (2, .int (nI b))]) hx hb dX0_isSubtype_11 rfl hl (by decide) rfl (fun ls hl => ?_)
  refine lv_iload_n hx hb dX0_isSubtype_12 rfl (lv_at hl 0 rfl) ?_
  refine st_ifeqn (tgt := 27) hx hb dX0_isSubtype_13 (by decide) (by omega) (fun hc => ?_) (fun hc => ?_)
  · refine lv_aload_n hx hb dX0_isSubtype_27 rfl (lv_at hl 1 rfl) ?_
    refine lv_iload_n hx hb dX0_isSubtype_28 rfl (lv_at hl 2 rfl) ?_
    refine lv_iload_n hx hb dX0_isSubtype_29 rfl (lv_at hl 3 rfl) ?_
    refine st_callT (As := [.int (nI a), .int (nI b)]) (rest := []) E hw (mX0_decide l D A h ad k T kn g.1 g.2.1 g.2.2.1 g.2.2.2 ak a b h_a h_b hT hK hc) (lw_V q98 q100 qs3 q16 q101) hdX0_decide rfl ⟨rfl, rfl⟩ ⟨Nat.le_of_ble_eq_true rfl, Nat.le_of_ble_eq_true rfl⟩ (ci := 0) rfl rfl rfl hl.1 rfl (Nat.le_of_ble_eq_true rfl) dX0_isSubtype_30 (fun r u H locs hp hw => ?_)
    obtain ⟨rfl, hp⟩ := hp
    exact st_rz E hr hlk u hw (st_pz _) ⟨rfl, hp⟩ dX0_isSubtype_33
  · refine lv_iload_n hx hb dX0_isSubtype_16 rfl (lv_at hl 0 rfl) ?_
    refine lv_iconst (v := nI 1) hx hb dX0_isSubtype_17 (by decide) ?_
    refine st_icne (tgt := 25) hx hb dX0_isSubtype_18 (by decide) (by omega) (by omega) (fun hd => ?_) (fun hd => ?_)
    · refine lv_iconst (v := nI 0) hx hb dX0_isSubtype_25 (by decide) ?_
      exact st_rz E hr hlk (kn, g, ak) hw rfl ⟨(st_p0 ((hK (a * 16 + b)).2.1 (by omega))).symm, hK⟩ dX0_isSubtype_26
    · refine lv_iconst (v := nI 1) hx hb dX0_isSubtype_21 (by decide) ?_
      refine lv_goto (tgt := 26) hx hb dX0_isSubtype_22 (by decide) ?_
      exact st_rz E hr hlk (kn, g, ak) hw rfl ⟨(st_p1 ((hK (a * 16 + b)).1 hd)).symm, hK⟩ dX0_isSubtype_26
set_option maxHeartbeats 4000000 in
set_option maxRecDepth 100000 in
/-- both(a, b) -/
theorem mX0_both (l : Launch) (D : va_G) (A : Nat → Prop) (h : Nat) (ad : Nat → Nat) (k : Nat → ClassId) (T : TT) (kn : Nat → Nat) (g : Sr) (ak : Option Nat) (a b : Nat) (h_a : a < 16) (h_b : b < 16) (hT : st_wf T) (hK : st_KI T kn) : Met l yX0_both (ws_ yX0_both cX0_both 4 (some .boolean)) ({ frames := 5, cells := 0, slots := 0, locals := 121 }) (va_Pc [.ref h, .int (nI a), .int (nI b)] (st_I D A (w0 h ad k T (kn, g, ak)) (ty0 k))) (va_Qi (fun (r : Int32) (u : S0) => r = st_p (st_eq T a b) ∧ st_KI T u.1) (fun u t => st_I D A (w0 h ad k T u) (ty0 k) t) A) 0 0 A := by
  refine st_start (by decide) (Nat.le_of_ble_eq_true rfl) (fun p e s m below meth c E hr hlk hw ls hl => ?_)
  have hx := E.1
  have hb := E.2.1
  have E : st_E p s m c cX0_both 4 _ RX0 D (ty0 k) := E
  have hl : lv_has ls 4 [(0, .ref h), (1, .int (nI a)), (2, .int (nI b))] := hl
  refine lv_aload_n hx hb dX0_both_0 rfl (lv_at hl 0 rfl) ?_
  refine lv_iload_n hx hb dX0_both_1 rfl (lv_at hl 1 rfl) ?_
  refine lv_iload_n hx hb dX0_both_2 rfl (lv_at hl 2 rfl) ?_
  refine st_callT (As := [.int (nI a), .int (nI b)]) (rest := []) E hw (mX0_isSubtype l D A h ad k T kn g ak a b h_a h_b hT hK) (lw_V q94 q96 qs2 q16 q97) hdX0_isSubtype rfl ⟨rfl, rfl⟩ ⟨Nat.le_of_ble_eq_true rfl, Nat.le_of_ble_eq_true rfl⟩ (ci := 0) rfl rfl rfl hl.1 rfl (Nat.le_of_ble_eq_true rfl) dX0_both_3 (fun r u H locs hp hw => ?_)
  obtain ⟨kn1, g1, ak1⟩ := u
  obtain ⟨rfl, p1⟩ := hp
  have hw : st_W D A s.heap (w0 h ad k T (kn1, g1, ak1)) H locs := hw
  refine lv_istore_n (lv' := [(3, .int (st_p (st_Sb T (a * 16 + b)))), (0, .ref h), (1, .int (nI a)), (2, .int (nI b))]) hx hb dX0_both_6 rfl hl (by decide) rfl (fun ls hl => ?_)
  refine lv_iload_n hx hb dX0_both_7 rfl (lv_at hl 0 rfl) ?_
  refine st_ifeqp (tgt := 24) hx hb dX0_both_8 (by decide) (fun hc => ?_) (fun hc => ?_)
  · refine lv_iconst (v := nI 0) hx hb dX0_both_24 (by decide) ?_
    exact st_rz E hr hlk (kn1, g1, ak1) hw rfl ⟨(st_p0 (fun q => hc q.1)).symm, p1⟩ dX0_both_25
  · refine lv_aload_n hx hb dX0_both_11 rfl (lv_at hl 1 rfl) ?_
    refine lv_iload_n hx hb dX0_both_12 rfl (lv_at hl 3 rfl) ?_
    refine lv_iload_n hx hb dX0_both_13 rfl (lv_at hl 2 rfl) ?_
    refine st_callT (As := [.int (nI b), .int (nI a)]) (rest := []) E hw (mX0_isSubtype l D A h ad k T kn1 g1 ak1 b a h_b h_a hT p1) (lw_V q94 q96 qs2 q16 q97) hdX0_isSubtype rfl ⟨rfl, rfl⟩ ⟨Nat.le_of_ble_eq_true rfl, Nat.le_of_ble_eq_true rfl⟩ (ci := 0) rfl rfl rfl hl.1 rfl (Nat.le_of_ble_eq_true rfl) dX0_both_14 (fun r u H locs hp hw => ?_)
    obtain ⟨kn2, g2, ak2⟩ := u
    obtain ⟨rfl, p2⟩ := hp
    have hw : st_W D A s.heap (w0 h ad k T (kn2, g2, ak2)) H locs := hw
    refine st_diaeq (v := st_p (st_Sb T (b * 16 + a))) hx hb dX0_both_17 dX0_both_20 dX0_both_21 dX0_both_24 (id) (st_p_01) ?_
    exact st_rz E hr hlk (kn2, g2, ak2) hw (st_pz _) ⟨st_p_c ⟨fun q => ⟨hc, q⟩, fun q => q.2⟩, p2⟩ dX0_both_25
set_option maxHeartbeats 4000000 in
set_option maxRecDepth 100000 in
/-- subtype(x, y) -/
theorem mX0_subtype (l : Launch) (D : va_G) (A : Nat → Prop) (h : Nat) (ad : Nat → Nat) (k : Nat → ClassId) (T : TT) (kn : Nat → Nat) (g : Sr) (ak : Option Nat) (x y : Int32) (hT : st_wf T) (hK : st_KI T kn) : Met l yX0_subtype (ws_ yX0_subtype cX0_subtype 3 (some .boolean)) ({ frames := 5, cells := 0, slots := 0, locals := 121 }) (va_Pc [.ref h, .int (x), .int (y)] (st_I D A (w0 h ad k T (kn, g, ak)) (ty0 k))) (va_Qi (fun (r : Int32) (u : S0) => r = st_suR T x y ∧ st_KI T u.1) (fun u t => st_I D A (w0 h ad k T u) (ty0 k) t) A) 0 0 A := by
  refine st_start (by decide) (Nat.le_of_ble_eq_true rfl) (fun p e s m below meth c E hr hlk hw ls hl => ?_)
  have hx := E.1
  have hb := E.2.1
  have E : st_E p s m c cX0_subtype 3 _ RX0 D (ty0 k) := E
  have hl : lv_has ls 3 [(0, .ref h), (1, .int (x)), (2, .int (y))] := hl
  refine lv_iload_n hx hb dX0_subtype_0 rfl (lv_at hl 1 rfl) ?_
  refine st_callS (As := [.int (x)]) (rest := []) E hw (mX0_bad l D A (w0 h ad k T (kn, g, ak)) (ty0 k) x) (lw_S q67 q68 q16 q69) hdX0_bad rfl ⟨rfl, rfl⟩ ⟨Nat.le_of_ble_eq_true rfl, Nat.le_of_ble_eq_true rfl⟩ hl.1 rfl (Nat.le_of_ble_eq_true rfl) dX0_subtype_1 (fun r u H locs hp hw => ?_)
  subst hp
  have hw : st_W D A s.heap (w0 h ad k T (kn, g, ak)) H locs := hw
  refine st_ifnep (tgt := 14) hx hb dX0_subtype_4 (by decide) (fun hc => ?_) (fun hc => ?_)
  · refine lv_iconst (v := nI 0) hx hb dX0_subtype_14 (by decide) ?_
    exact st_rz E hr hlk (kn, g, ak) hw rfl ⟨by simp only [st_suR, hc]; rfl, hK⟩ dX0_subtype_15
  · obtain ⟨a, h_a, rfl⟩ := st_ty_s hc
    refine lv_iload_n hx hb dX0_subtype_7 rfl (lv_at hl 2 rfl) ?_
    refine st_callS (As := [.int (y)]) (rest := []) E hw (mX0_bad l D A (w0 h ad k T (kn, g, ak)) (ty0 k) y) (lw_S q67 q68 q16 q69) hdX0_bad rfl ⟨rfl, rfl⟩ ⟨Nat.le_of_ble_eq_true rfl, Nat.le_of_ble_eq_true rfl⟩ hl.1 rfl (Nat.le_of_ble_eq_true rfl) dX0_subtype_8 (fun r u H locs hp hw => ?_)
    subst hp
    have hw : st_W D A s.heap (w0 h ad k T (kn, g, ak)) H locs := hw
    refine st_ifeqp (tgt := 16) hx hb dX0_subtype_11 (by decide) (fun hd => ?_) (fun hd => ?_)
    · obtain ⟨b, h_b, rfl⟩ := st_ty_s hd
      refine lv_aload_n hx hb dX0_subtype_16 rfl (lv_at hl 0 rfl) ?_
      refine lv_iload_n hx hb dX0_subtype_17 rfl (lv_at hl 1 rfl) ?_
      refine lv_iload_n hx hb dX0_subtype_18 rfl (lv_at hl 2 rfl) ?_
      refine st_callT (As := [.int (nI a), .int (nI b)]) (rest := []) E hw (mX0_isSubtype l D A h ad k T kn g ak a b h_a h_b hT hK) (lw_V q94 q96 qs2 q16 q97) hdX0_isSubtype rfl ⟨rfl, rfl⟩ ⟨Nat.le_of_ble_eq_true rfl, Nat.le_of_ble_eq_true rfl⟩ (ci := 0) rfl rfl rfl hl.1 rfl (Nat.le_of_ble_eq_true rfl) dX0_subtype_19 (fun r u H locs hp hw => ?_)
      obtain ⟨rfl, hp⟩ := hp
      exact st_rz E hr hlk u hw (st_pz _) ⟨by simp only [st_suR, st_ty_n h_a, st_ty_n h_b], hp⟩ dX0_subtype_22
    · refine lv_iconst (v := nI 0) hx hb dX0_subtype_14 (by decide) ?_
      exact st_rz E hr hlk (kn, g, ak) hw rfl ⟨by simp only [st_suR, st_ty_n h_a, hd]; rfl, hK⟩ dX0_subtype_15
set_option maxHeartbeats 4000000 in
set_option maxRecDepth 100000 in
/-- equivalent(x, y) -/
theorem mX0_equivalent (l : Launch) (D : va_G) (A : Nat → Prop) (h : Nat) (ad : Nat → Nat) (k : Nat → ClassId) (T : TT) (kn : Nat → Nat) (g : Sr) (ak : Option Nat) (x y : Int32) (hT : st_wf T) (hK : st_KI T kn) : Met l yX0_equivalent (ws_ yX0_equivalent cX0_equivalent 3 (some .boolean)) ({ frames := 6, cells := 0, slots := 0, locals := 144 }) (va_Pc [.ref h, .int (x), .int (y)] (st_I D A (w0 h ad k T (kn, g, ak)) (ty0 k))) (va_Qi (fun (r : Int32) (u : S0) => r = st_eqR T x y ∧ st_KI T u.1) (fun u t => st_I D A (w0 h ad k T u) (ty0 k) t) A) 0 0 A := by
  refine st_start (by decide) (Nat.le_of_ble_eq_true rfl) (fun p e s m below meth c E hr hlk hw ls hl => ?_)
  have hx := E.1
  have hb := E.2.1
  have E : st_E p s m c cX0_equivalent 3 _ RX0 D (ty0 k) := E
  have hl : lv_has ls 3 [(0, .ref h), (1, .int (x)), (2, .int (y))] := hl
  refine lv_iload_n hx hb dX0_equivalent_0 rfl (lv_at hl 1 rfl) ?_
  refine st_callS (As := [.int (x)]) (rest := []) E hw (mX0_bad l D A (w0 h ad k T (kn, g, ak)) (ty0 k) x) (lw_S q67 q68 q16 q69) hdX0_bad rfl ⟨rfl, rfl⟩ ⟨Nat.le_of_ble_eq_true rfl, Nat.le_of_ble_eq_true rfl⟩ hl.1 rfl (Nat.le_of_ble_eq_true rfl) dX0_equivalent_1 (fun r u H locs hp hw => ?_)
  subst hp
  have hw : st_W D A s.heap (w0 h ad k T (kn, g, ak)) H locs := hw
  refine st_ifnep (tgt := 14) hx hb dX0_equivalent_4 (by decide) (fun hc => ?_) (fun hc => ?_)
  · refine lv_iconst (v := nI 0) hx hb dX0_equivalent_14 (by decide) ?_
    exact st_rz E hr hlk (kn, g, ak) hw rfl ⟨by simp only [st_eqR, hc]; rfl, hK⟩ dX0_equivalent_15
  · obtain ⟨a, h_a, rfl⟩ := st_ty_s hc
    refine lv_iload_n hx hb dX0_equivalent_7 rfl (lv_at hl 2 rfl) ?_
    refine st_callS (As := [.int (y)]) (rest := []) E hw (mX0_bad l D A (w0 h ad k T (kn, g, ak)) (ty0 k) y) (lw_S q67 q68 q16 q69) hdX0_bad rfl ⟨rfl, rfl⟩ ⟨Nat.le_of_ble_eq_true rfl, Nat.le_of_ble_eq_true rfl⟩ hl.1 rfl (Nat.le_of_ble_eq_true rfl) dX0_equivalent_8 (fun r u H locs hp hw => ?_)
    subst hp
    have hw : st_W D A s.heap (w0 h ad k T (kn, g, ak)) H locs := hw
    refine st_ifeqp (tgt := 16) hx hb dX0_equivalent_11 (by decide) (fun hd => ?_) (fun hd => ?_)
    · obtain ⟨b, h_b, rfl⟩ := st_ty_s hd
      refine lv_aload_n hx hb dX0_equivalent_16 rfl (lv_at hl 0 rfl) ?_
      refine lv_iload_n hx hb dX0_equivalent_17 rfl (lv_at hl 1 rfl) ?_
      refine lv_iload_n hx hb dX0_equivalent_18 rfl (lv_at hl 2 rfl) ?_
      refine st_callT (As := [.int (nI a), .int (nI b)]) (rest := []) E hw (mX0_both l D A h ad k T kn g ak a b h_a h_b hT hK) (lw_V q122 q124 qs8 q16 q125) hdX0_both rfl ⟨rfl, rfl⟩ ⟨Nat.le_of_ble_eq_true rfl, Nat.le_of_ble_eq_true rfl⟩ (ci := 0) rfl rfl rfl hl.1 rfl (Nat.le_of_ble_eq_true rfl) dX0_equivalent_19 (fun r u H locs hp hw => ?_)
      obtain ⟨rfl, hp⟩ := hp
      exact st_rz E hr hlk u hw (st_pz _) ⟨by simp only [st_eqR, st_ty_n h_a, st_ty_n h_b], hp⟩ dX0_equivalent_22
    · refine lv_iconst (v := nI 0) hx hb dX0_equivalent_14 (by decide) ?_
      exact st_rz E hr hlk (kn, g, ak) hw rfl ⟨by simp only [st_eqR, st_ty_n h_a, hd]; rfl, hK⟩ dX0_equivalent_15
set_option maxHeartbeats 4000000 in
set_option maxRecDepth 100000 in
/-- subtypes(x) -/
theorem mX0_subtypes (l : Launch) (D : va_G) (A : Nat → Prop) (h : Nat) (ad : Nat → Nat) (k : Nat → ClassId) (T : TT) (kn : Nat → Nat) (g : Sr) (ak : Option Nat) (x : Int32) (hT : st_wf T) (hK : st_KI T kn) : Met l yX0_subtypes (ws_ yX0_subtypes cX0_subtypes 5 (some .int)) ({ frames := 5, cells := 0, slots := 0, locals := 121 }) (va_Pc [.ref h, .int (x)] (st_I D A (w0 h ad k T (kn, g, ak)) (ty0 k))) (va_Qi (fun (r : Int32) (u : S0) => r = st_sbR T x ∧ st_KI T u.1) (fun u t => st_I D A (w0 h ad k T u) (ty0 k) t) A) 0 0 A := by
  refine st_start (by decide) (Nat.le_of_ble_eq_true rfl) (fun p e s m below meth c E hr hlk hw ls hl => ?_)
  have hx := E.1
  have hb := E.2.1
  have E : st_E p s m c cX0_subtypes 5 _ RX0 D (ty0 k) := E
  have hl : lv_has ls 5 [(0, .ref h), (1, .int (x))] := hl
  refine lv_iload_n hx hb dX0_subtypes_0 rfl (lv_at hl 1 rfl) ?_
  refine st_callS (As := [.int (x)]) (rest := []) E hw (mX0_bad l D A (w0 h ad k T (kn, g, ak)) (ty0 k) x) (lw_S q67 q68 q16 q69) hdX0_bad rfl ⟨rfl, rfl⟩ ⟨Nat.le_of_ble_eq_true rfl, Nat.le_of_ble_eq_true rfl⟩ hl.1 rfl (Nat.le_of_ble_eq_true rfl) dX0_subtypes_1 (fun r u H locs hp hw => ?_)
  subst hp
  have hw : st_W D A s.heap (w0 h ad k T (kn, g, ak)) H locs := hw
  refine st_ifeqp (tgt := 9) hx hb dX0_subtypes_4 (by decide) (fun hc => ?_) (fun hc => ?_)
  · obtain ⟨a, h_a, rfl⟩ := st_ty_s hc
    refine lv_iconst (v := nI 0) hx hb dX0_subtypes_9 (by decide) ?_
    refine lv_istore_n (lv' := [(2, .int (nI 0)), (0, .ref h), (1, .int (nI a))]) hx hb dX0_subtypes_10 rfl hl (by decide) rfl (fun ls hl => ?_)
    refine lv_iconst (v := nI 0) hx hb dX0_subtypes_11 (by decide) ?_
    refine lv_istore_n (lv' := [(3, .int (nI 0)), (2, .int (nI 0)), (0, .ref h), (1, .int (nI a))]) hx hb dX0_subtypes_12 rfl hl (by decide) rfl (fun ls hl => ?_)
    refine st_loop (σ := Nat × (Nat → Nat) × Sr × Option Nat) (fun x H locs ls => st_W D A s.heap (w0 h ad k T (x.2.1, x.2.2.1, x.2.2.2)) H locs ∧ lv_has ls 5 [(0, .ref h), (1, .int (nI a)), (2, .int ((st_msk (fun s => st_Sb T (s * 16 + a)) x.1))), (3, .int (nI x.1))] ∧ (x.1 ≤ 16 ∧ st_KI T x.2.1)) (fun x => 17 - x.1) (fun x H locs ls hJ ih => ?_) (0, kn, g, ak) ⟨hw, lv_sub hl [2, 3, 1, 0] rfl, ⟨by omega, hK⟩⟩
    obtain ⟨i, kn1, g1, ak1⟩ := x
    have hw : st_W D A s.heap (w0 h ad k T (kn1, g1, ak1)) H locs := hJ.1
    have hl : lv_has ls 5 [(0, .ref h), (1, .int (nI a)), (2, .int ((st_msk (fun s => st_Sb T (s * 16 + a)) i))), (3, .int (nI i))] := hJ.2.1
    have hI : (i ≤ 16 ∧ st_KI T kn1) := hJ.2.2
    clear hJ
    obtain ⟨i1, i2⟩ := hI
    refine lv_iload_n hx hb dX0_subtypes_13 rfl (lv_at hl 3 rfl) ?_
    refine lv_bipush (v := nI 16) hx hb dX0_subtypes_14 (by decide) ?_
    refine st_icge (tgt := 44) hx hb dX0_subtypes_16 (by decide) (by omega) (by omega) (fun hd => ?_) (fun hd => ?_)
    · obtain rfl : i = 16 := by omega
      refine lv_iload_n hx hb dX0_subtypes_44 rfl (lv_at hl 2 rfl) ?_
      exact st_ri E hr hlk (kn1, g1, ak1) hw ⟨by simp only [st_sbR, st_ty_n h_a], i2⟩ dX0_subtypes_45
    · refine lv_aload_n hx hb dX0_subtypes_19 rfl (lv_at hl 0 rfl) ?_
      refine lv_iload_n hx hb dX0_subtypes_20 rfl (lv_at hl 3 rfl) ?_
      refine lv_iload_n hx hb dX0_subtypes_21 rfl (lv_at hl 1 rfl) ?_
      refine st_callT (As := [.int (nI i), .int (nI a)]) (rest := []) E hw (mX0_isSubtype l D A h ad k T kn1 g1 ak1 i a hd h_a hT i2) (lw_V q94 q96 qs2 q16 q97) hdX0_isSubtype rfl ⟨rfl, rfl⟩ ⟨Nat.le_of_ble_eq_true rfl, Nat.le_of_ble_eq_true rfl⟩ (ci := 0) rfl rfl rfl hl.1 rfl (Nat.le_of_ble_eq_true rfl) dX0_subtypes_22 (fun r u H locs hp hw => ?_)
      obtain ⟨kn2, g2, ak2⟩ := u
      obtain ⟨rfl, p2⟩ := hp
      have hw : st_W D A s.heap (w0 h ad k T (kn2, g2, ak2)) H locs := hw
      refine lv_istore (lv' := [(4, .int (st_p (st_Sb T (i * 16 + a)))), (0, .ref h), (1, .int (nI a)), (2, .int ((st_msk (fun s => st_Sb T (s * 16 + a)) i))), (3, .int (nI i))]) hx hb dX0_subtypes_25 hl (by decide) rfl (fun ls hl => ?_)
      refine lv_iload hx hb dX0_subtypes_27 (lv_at hl 0 rfl) ?_
      refine st_ifeqp (tgt := 38) hx hb dX0_subtypes_29 (by decide) (fun he => ?_) (fun he => ?_)
      · have hl : lv_has ls 5 [(4, .int (st_p (st_Sb T (i * 16 + a)))), (0, .ref h), (1, .int (nI a)), (2, .int ((st_msk (fun s => st_Sb T (s * 16 + a)) (i + 1)))), (3, .int (nI i))] := by rw [st_msk_f (f := (fun s => st_Sb T (s * 16 + a))) (n := i) he]; exact hl
        refine lv_iinc (v := nI (i + 1)) (lv' := [(3, .int (nI (i + 1))), (4, .int (st_p (st_Sb T (i * 16 + a)))), (0, .ref h), (1, .int (nI a)), (2, .int ((st_msk (fun s => st_Sb T (s * 16 + a)) (i + 1))))]) hx hb dX0_subtypes_38 hl (k := 4) rfl (st_inc _) (by decide) rfl (fun ls hl => ?_)
        refine lv_goto (tgt := 13) hx hb dX0_subtypes_41 (by decide) ?_
        exact ih (i + 1, kn2, g2, ak2) _ _ _ ⟨hw, lv_sub hl [2, 3, 4, 0] rfl, ⟨by omega, p2⟩⟩ (by show 17 - (i + 1) < 17 - i; omega)
      · refine lv_iload_n hx hb dX0_subtypes_32 rfl (lv_at hl 3 rfl) ?_
        refine lv_iconst (v := nI 1) hx hb dX0_subtypes_33 (by decide) ?_
        refine lv_iload_n hx hb dX0_subtypes_34 rfl (lv_at hl 4 rfl) ?_
        refine lv_ishl hx hb dX0_subtypes_35 ?_
        refine lv_ior hx hb dX0_subtypes_36 ?_
        refine lv_istore_n (lv' := [(2, .int (((st_msk (fun s => st_Sb T (s * 16 + a)) i) ||| ((nI 1 <<< (nI i &&& 31)))))), (4, .int (st_p (st_Sb T (i * 16 + a)))), (0, .ref h), (1, .int (nI a)), (3, .int (nI i))]) hx hb dX0_subtypes_37 rfl hl (by decide) rfl (fun ls hl => ?_)
        have hl : lv_has ls 5 [(2, .int ((st_msk (fun s => st_Sb T (s * 16 + a)) (i + 1)))), (4, .int (st_p (st_Sb T (i * 16 + a)))), (0, .ref h), (1, .int (nI a)), (3, .int (nI i))] := by rw [st_msk_t (f := (fun s => st_Sb T (s * 16 + a))) (n := i) he]; exact hl
        refine lv_iinc (v := nI (i + 1)) (lv' := [(3, .int (nI (i + 1))), (2, .int ((st_msk (fun s => st_Sb T (s * 16 + a)) (i + 1)))), (4, .int (st_p (st_Sb T (i * 16 + a)))), (0, .ref h), (1, .int (nI a))]) hx hb dX0_subtypes_38 hl (k := 4) rfl (st_inc _) (by decide) rfl (fun ls hl => ?_)
        refine lv_goto (tgt := 13) hx hb dX0_subtypes_41 (by decide) ?_
        exact ih (i + 1, kn2, g2, ak2) _ _ _ ⟨hw, lv_sub hl [3, 4, 1, 0] rfl, ⟨by omega, p2⟩⟩ (by show 17 - (i + 1) < 17 - i; omega)
  · refine lv_iconst (v := st_o none) hx hb dX0_subtypes_7 (by decide) ?_
    exact st_ri E hr hlk (kn, g, ak) hw ⟨by simp only [st_sbR, hc]; rfl, hK⟩ dX0_subtypes_8
set_option maxHeartbeats 4000000 in
set_option maxRecDepth 100000 in
/-- kinds() -/
theorem mX0_kinds (l : Launch) (D : va_G) (A : Nat → Prop) (h : Nat) (ad : Nat → Nat) (k : Nat → ClassId) (T : TT) (kn : Nat → Nat) (g : Sr) (ak : Option Nat) (hT : st_wf T) (hK : st_KI T kn) : Met l yX0_kinds (ws_ yX0_kinds cX0_kinds 6 (some .int)) ({ frames := 6, cells := 0, slots := 0, locals := 144 }) (va_Pc [.ref h] (st_I D A (w0 h ad k T (kn, g, ak)) (ty0 k))) (va_Qi (fun (r : Int32) (u : S0) => r = st_kdR T ∧ st_KI T u.1) (fun u t => st_I D A (w0 h ad k T u) (ty0 k) t) A) 0 0 A := by
  refine st_start (by decide) (Nat.le_of_ble_eq_true rfl) (fun p e s m below meth c E hr hlk hw ls hl => ?_)
  have hx := E.1
  have hb := E.2.1
  have E : st_E p s m c cX0_kinds 6 _ RX0 D (ty0 k) := E
  have hl : lv_has ls 6 [(0, .ref h)] := hl
  refine lv_iconst (v := nI 0) hx hb dX0_kinds_0 (by decide) ?_
  refine lv_istore_n (lv' := [(1, .int (nI 0)), (0, .ref h)]) hx hb dX0_kinds_1 rfl hl (by decide) rfl (fun ls hl => ?_)
  refine lv_iconst (v := nI 0) hx hb dX0_kinds_2 (by decide) ?_
  refine lv_istore_n (lv' := [(2, .int (nI 0)), (1, .int (nI 0)), (0, .ref h)]) hx hb dX0_kinds_3 rfl hl (by decide) rfl (fun ls hl => ?_)
  refine st_loop (σ := Nat × (Nat → Nat) × Sr × Option Nat) (fun x H locs ls => st_W D A s.heap (w0 h ad k T (x.2.1, x.2.2.1, x.2.2.2)) H locs ∧ lv_has ls 6 [(0, .ref h), (1, .int (nI (st_cn (fun t => st_nw T t t) x.1))), (2, .int (nI x.1))] ∧ (x.1 ≤ 16 ∧ st_KI T x.2.1)) (fun x => 17 - x.1) (fun x H locs ls hJ ih => ?_) (0, kn, g, ak) ⟨hw, lv_sub hl [2, 1, 0] rfl, ⟨by omega, hK⟩⟩
  obtain ⟨t, kn1, g1, ak1⟩ := x
  have hw : st_W D A s.heap (w0 h ad k T (kn1, g1, ak1)) H locs := hJ.1
  have hl : lv_has ls 6 [(0, .ref h), (1, .int (nI (st_cn (fun t => st_nw T t t) t))), (2, .int (nI t))] := hJ.2.1
  have hI : (t ≤ 16 ∧ st_KI T kn1) := hJ.2.2
  clear hJ
  obtain ⟨i1, i2⟩ := hI
  refine lv_iload_n hx hb dX0_kinds_4 rfl (lv_at hl 2 rfl) ?_
  refine lv_bipush (v := nI 16) hx hb dX0_kinds_5 (by decide) ?_
  refine st_icge (tgt := 56) hx hb dX0_kinds_7 (by decide) (by omega) (by omega) (fun hd => ?_) (fun hd => ?_)
  · obtain rfl : t = 16 := by omega
    refine lv_iload_n hx hb dX0_kinds_56 rfl (lv_at hl 1 rfl) ?_
    exact st_ri E hr hlk (kn1, g1, ak1) hw ⟨rfl, i2⟩ dX0_kinds_57
  · refine lv_iconst (v := nI 1) hx hb dX0_kinds_10 (by decide) ?_
    refine st_top (y := st_p (st_nw T t 0)) ((st_p1 (fun s hs => absurd hs (Nat.not_lt_zero s))).symm) ?_
    refine lv_istore_n (lv' := [(3, .int (st_p (st_nw T t 0))), (0, .ref h), (1, .int (nI (st_cn (fun t => st_nw T t t) t))), (2, .int (nI t))]) hx hb dX0_kinds_11 rfl hl (by decide) rfl (fun ls hl => ?_)
    refine lv_iconst (v := nI 0) hx hb dX0_kinds_12 (by decide) ?_
    refine lv_istore (lv' := [(4, .int (nI 0)), (3, .int (st_p (st_nw T t 0))), (0, .ref h), (1, .int (nI (st_cn (fun t => st_nw T t t) t))), (2, .int (nI t))]) hx hb dX0_kinds_13 hl (by decide) rfl (fun ls hl => ?_)
    refine st_loop (σ := Nat × (Nat → Nat) × Sr × Option Nat) (fun x H locs ls => st_W D A s.heap (w0 h ad k T (x.2.1, x.2.2.1, x.2.2.2)) H locs ∧ lv_has ls 6 [(0, .ref h), (1, .int (nI (st_cn (fun t => st_nw T t t) t))), (2, .int (nI t)), (3, .int (st_p (st_nw T t x.1))), (4, .int (nI x.1))] ∧ (x.1 ≤ t ∧ st_KI T x.2.1)) (fun x => 17 - x.1) (fun x H locs ls hJ ih2 => ?_) (0, kn1, g1, ak1) ⟨hw, lv_sub hl [2, 3, 4, 1, 0] rfl, ⟨Nat.zero_le t, i2⟩⟩
    obtain ⟨q, kn2, g2, ak2⟩ := x
    have hw : st_W D A s.heap (w0 h ad k T (kn2, g2, ak2)) H locs := hJ.1
    have hl : lv_has ls 6 [(0, .ref h), (1, .int (nI (st_cn (fun t => st_nw T t t) t))), (2, .int (nI t)), (3, .int (st_p (st_nw T t q))), (4, .int (nI q))] := hJ.2.1
    have hI2 : (q ≤ t ∧ st_KI T kn2) := hJ.2.2
    clear hJ
    obtain ⟨j1, j2⟩ := hI2
    refine lv_iload hx hb dX0_kinds_15 (lv_at hl 4 rfl) ?_
    refine lv_iload_n hx hb dX0_kinds_17 rfl (lv_at hl 2 rfl) ?_
    refine st_icge (tgt := 43) hx hb dX0_kinds_18 (by decide) (by omega) (by omega) (fun he => ?_) (fun he => ?_)
    · have e2 : q = t := by omega
      refine lv_iload_n hx hb dX0_kinds_43 rfl (lv_at hl 3 rfl) ?_
      refine st_ifeqp (tgt := 50) hx hb dX0_kinds_44 (by decide) (fun hf => ?_) (fun hf => ?_)
      · have hl : lv_has ls 6 [(0, .ref h), (1, .int (nI (st_cn (fun t => st_nw T t t) (t + 1)))), (2, .int (nI t)), (3, .int (st_p (st_nw T t q))), (4, .int (nI q))] := by rw [st_cn_f (f := (fun t => st_nw T t t)) (n := t) (by rw [e2] at hf; exact hf)]; exact hl
        refine lv_iinc (v := nI (t + 1)) (lv' := [(2, .int (nI (t + 1))), (0, .ref h), (1, .int (nI (st_cn (fun t => st_nw T t t) (t + 1)))), (3, .int (st_p (st_nw T t q))), (4, .int (nI q))]) hx hb dX0_kinds_50 hl (k := 2) rfl (st_inc _) (by decide) rfl (fun ls hl => ?_)
        refine lv_goto (tgt := 4) hx hb dX0_kinds_53 (by decide) ?_
        exact ih (t + 1, kn2, g2, ak2) _ _ _ ⟨hw, lv_sub hl [1, 2, 0] rfl, ⟨by omega, j2⟩⟩ (by show 17 - (t + 1) < 17 - t; omega)
      · refine lv_iinc (v := nI (st_cn (fun t => st_nw T t t) t + 1)) (lv' := [(1, .int (nI (st_cn (fun t => st_nw T t t) t + 1))), (0, .ref h), (2, .int (nI t)), (3, .int (st_p (st_nw T t q))), (4, .int (nI q))]) hx hb dX0_kinds_47 hl (k := 1) rfl (st_inc _) (by decide) rfl (fun ls hl => ?_)
        have hl : lv_has ls 6 [(1, .int (nI (st_cn (fun t => st_nw T t t) (t + 1)))), (0, .ref h), (2, .int (nI t)), (3, .int (st_p (st_nw T t q))), (4, .int (nI q))] := by rw [st_cn_t (f := (fun t => st_nw T t t)) (n := t) (by rw [e2] at hf; exact hf)]; exact hl
        refine lv_iinc (v := nI (t + 1)) (lv' := [(2, .int (nI (t + 1))), (1, .int (nI (st_cn (fun t => st_nw T t t) (t + 1)))), (0, .ref h), (3, .int (st_p (st_nw T t q))), (4, .int (nI q))]) hx hb dX0_kinds_50 hl (k := 2) rfl (st_inc _) (by decide) rfl (fun ls hl => ?_)
        refine lv_goto (tgt := 4) hx hb dX0_kinds_53 (by decide) ?_
        exact ih (t + 1, kn2, g2, ak2) _ _ _ ⟨hw, lv_sub hl [2, 1, 0] rfl, ⟨by omega, j2⟩⟩ (by show 17 - (t + 1) < 17 - t; omega)
    · refine lv_aload_n hx hb dX0_kinds_21 rfl (lv_at hl 0 rfl) ?_
      refine lv_iload hx hb dX0_kinds_22 (lv_at hl 4 rfl) ?_
      refine lv_iload_n hx hb dX0_kinds_24 rfl (lv_at hl 2 rfl) ?_
      refine st_callT (As := [.int (nI q), .int (nI t)]) (rest := []) E hw (mX0_both l D A h ad k T kn2 g2 ak2 q t (by omega) hd hT j2) (lw_V q122 q124 qs8 q16 q125) hdX0_both rfl ⟨rfl, rfl⟩ ⟨Nat.le_of_ble_eq_true rfl, Nat.le_of_ble_eq_true rfl⟩ (ci := 0) rfl rfl rfl hl.1 rfl (Nat.le_of_ble_eq_true rfl) dX0_kinds_25 (fun r u H locs hp hw => ?_)
      obtain ⟨kn3, g3, ak3⟩ := u
      obtain ⟨rfl, p3⟩ := hp
      have hw : st_W D A s.heap (w0 h ad k T (kn3, g3, ak3)) H locs := hw
      refine lv_istore (lv' := [(5, .int (st_p (st_eq T q t))), (0, .ref h), (1, .int (nI (st_cn (fun t => st_nw T t t) t))), (2, .int (nI t)), (3, .int (st_p (st_nw T t q))), (4, .int (nI q))]) hx hb dX0_kinds_28 hl (by decide) rfl (fun ls hl => ?_)
      refine lv_iload hx hb dX0_kinds_30 (lv_at hl 0 rfl) ?_
      refine st_ifeqp (tgt := 37) hx hb dX0_kinds_32 (by decide) (fun hg => ?_) (fun hg => ?_)
      · have hl : lv_has ls 6 [(5, .int (st_p (st_eq T q t))), (0, .ref h), (1, .int (nI (st_cn (fun t => st_nw T t t) t))), (2, .int (nI t)), (3, .int (st_p (st_nw T t (q + 1)))), (4, .int (nI q))] := by rw [st_p_c (st_nw_f hg)]; exact hl
        refine lv_iinc (v := nI (q + 1)) (lv' := [(4, .int (nI (q + 1))), (5, .int (st_p (st_eq T q t))), (0, .ref h), (1, .int (nI (st_cn (fun t => st_nw T t t) t))), (2, .int (nI t)), (3, .int (st_p (st_nw T t (q + 1))))]) hx hb dX0_kinds_37 hl (k := 5) rfl (st_inc _) (by decide) rfl (fun ls hl => ?_)
        refine lv_goto (tgt := 15) hx hb dX0_kinds_40 (by decide) ?_
        exact ih2 (q + 1, kn3, g3, ak3) _ _ _ ⟨hw, lv_sub hl [2, 3, 4, 5, 0] rfl, ⟨by omega, p3⟩⟩ (by show 17 - (q + 1) < 17 - q; omega)
      · refine lv_iconst (v := nI 0) hx hb dX0_kinds_35 (by decide) ?_
        refine st_top (y := st_p (st_nw T t (q + 1))) ((st_p0 (st_nw_t hg)).symm) ?_
        refine lv_istore_n (lv' := [(3, .int (st_p (st_nw T t (q + 1)))), (5, .int (st_p (st_eq T q t))), (0, .ref h), (1, .int (nI (st_cn (fun t => st_nw T t t) t))), (2, .int (nI t)), (4, .int (nI q))]) hx hb dX0_kinds_36 rfl hl (by decide) rfl (fun ls hl => ?_)
        refine lv_iinc (v := nI (q + 1)) (lv' := [(4, .int (nI (q + 1))), (3, .int (st_p (st_nw T t (q + 1)))), (5, .int (st_p (st_eq T q t))), (0, .ref h), (1, .int (nI (st_cn (fun t => st_nw T t t) t))), (2, .int (nI t))]) hx hb dX0_kinds_37 hl (k := 5) rfl (st_inc _) (by decide) rfl (fun ls hl => ?_)
        refine lv_goto (tgt := 15) hx hb dX0_kinds_40 (by decide) ?_
        exact ih2 (q + 1, kn3, g3, ak3) _ _ _ ⟨hw, lv_sub hl [3, 4, 5, 1, 0] rfl, ⟨by omega, p3⟩⟩ (by show 17 - (q + 1) < 17 - q; omega)
set_option maxHeartbeats 4000000 in
set_option maxRecDepth 100000 in
/-- unrelated() -/
theorem mX0_unrelated (l : Launch) (D : va_G) (A : Nat → Prop) (h : Nat) (ad : Nat → Nat) (k : Nat → ClassId) (T : TT) (kn : Nat → Nat) (g : Sr) (ak : Option Nat) (hT : st_wf T) (hK : st_KI T kn) : Met l yX0_unrelated (ws_ yX0_unrelated cX0_unrelated 6 (some .int)) ({ frames := 5, cells := 0, slots := 0, locals := 121 }) (va_Pc [.ref h] (st_I D A (w0 h ad k T (kn, g, ak)) (ty0 k))) (va_Qi (fun (r : Int32) (u : S0) => r = st_urR T ∧ st_KI T u.1) (fun u t => st_I D A (w0 h ad k T u) (ty0 k) t) A) 0 0 A := by
  refine st_start (by decide) (Nat.le_of_ble_eq_true rfl) (fun p e s m below meth c E hr hlk hw ls hl => ?_)
  have hx := E.1
  have hb := E.2.1
  have E : st_E p s m c cX0_unrelated 6 _ RX0 D (ty0 k) := E
  have hl : lv_has ls 6 [(0, .ref h)] := hl
  refine lv_iconst (v := nI 0) hx hb dX0_unrelated_0 (by decide) ?_
  refine lv_istore_n (lv' := [(1, .int (nI 0)), (0, .ref h)]) hx hb dX0_unrelated_1 rfl hl (by decide) rfl (fun ls hl => ?_)
  refine lv_iconst (v := nI 0) hx hb dX0_unrelated_2 (by decide) ?_
  refine lv_istore_n (lv' := [(2, .int (nI 0)), (1, .int (nI 0)), (0, .ref h)]) hx hb dX0_unrelated_3 rfl hl (by decide) rfl (fun ls hl => ?_)
  refine st_loop (σ := Nat × (Nat → Nat) × Sr × Option Nat) (fun x H locs ls => st_W D A s.heap (w0 h ad k T (x.2.1, x.2.2.1, x.2.2.2)) H locs ∧ lv_has ls 6 [(0, .ref h), (1, .int (nI (st_sum (fun s => st_cn (fun t => s < t ∧ st_ur T s t) 16) x.1))), (2, .int (nI x.1))] ∧ (x.1 ≤ 16 ∧ st_KI T x.2.1)) (fun x => 17 - x.1) (fun x H locs ls hJ ih => ?_) (0, kn, g, ak) ⟨hw, lv_sub hl [2, 1, 0] rfl, ⟨by omega, hK⟩⟩
  obtain ⟨i, kn1, g1, ak1⟩ := x
  have hw : st_W D A s.heap (w0 h ad k T (kn1, g1, ak1)) H locs := hJ.1
  have hl : lv_has ls 6 [(0, .ref h), (1, .int (nI (st_sum (fun s => st_cn (fun t => s < t ∧ st_ur T s t) 16) i))), (2, .int (nI i))] := hJ.2.1
  have hI : (i ≤ 16 ∧ st_KI T kn1) := hJ.2.2
  clear hJ
  obtain ⟨i1, i2⟩ := hI
  refine lv_iload_n hx hb dX0_unrelated_4 rfl (lv_at hl 2 rfl) ?_
  refine lv_bipush (v := nI 16) hx hb dX0_unrelated_5 (by decide) ?_
  refine st_icge (tgt := 61) hx hb dX0_unrelated_7 (by decide) (by omega) (by omega) (fun hd => ?_) (fun hd => ?_)
  · obtain rfl : i = 16 := by omega
    refine lv_iload_n hx hb dX0_unrelated_61 rfl (lv_at hl 1 rfl) ?_
    exact st_ri E hr hlk (kn1, g1, ak1) hw ⟨by unfold st_urR; rw [← st_dbl], i2⟩ dX0_unrelated_62
  · refine lv_iload_n hx hb dX0_unrelated_10 rfl (lv_at hl 2 rfl) ?_
    refine lv_iconst (v := nI 1) hx hb dX0_unrelated_11 (by decide) ?_
    refine st_iadd hx hb dX0_unrelated_12 ?_
    refine lv_istore_n (lv' := [(3, .int (nI (i + 1))), (0, .ref h), (1, .int (nI (st_sum (fun s => st_cn (fun t => s < t ∧ st_ur T s t) 16) i))), (2, .int (nI i))]) hx hb dX0_unrelated_13 rfl hl (by decide) rfl (fun ls hl => ?_)
    have hl : lv_has ls 6 [(3, .int (nI (i + 1))), (0, .ref h), (1, .int (nI (st_sum (fun s => st_cn (fun t => s < t ∧ st_ur T s t) 16) i + st_cn (fun t => i < t ∧ st_ur T i t) (i + 1)))), (2, .int (nI i))] := by rw [st_cn_0 (f := (fun t => i < t ∧ st_ur T i t)) (i + 1) (fun z hz q => absurd q.1 (by omega))]; exact hl
    refine st_loop (σ := Nat × (Nat → Nat) × Sr × Option Nat) (fun x H locs ls => st_W D A s.heap (w0 h ad k T (x.2.1, x.2.2.1, x.2.2.2)) H locs ∧ lv_has ls 6 [(0, .ref h), (1, .int (nI (st_sum (fun s => st_cn (fun t => s < t ∧ st_ur T s t) 16) i + st_cn (fun t => i < t ∧ st_ur T i t) x.1))), (2, .int (nI i)), (3, .int (nI x.1))] ∧ (i < x.1 ∧ x.1 ≤ 16 ∧ st_KI T x.2.1)) (fun x => 17 - x.1) (fun x H locs ls hJ ih2 => ?_) (i + 1, kn1, g1, ak1) ⟨hw, lv_sub hl [1, 2, 3, 0] rfl, ⟨Nat.lt_succ_self i, hd, i2⟩⟩
    obtain ⟨q, kn2, g2, ak2⟩ := x
    have hw : st_W D A s.heap (w0 h ad k T (kn2, g2, ak2)) H locs := hJ.1
    have hl : lv_has ls 6 [(0, .ref h), (1, .int (nI (st_sum (fun s => st_cn (fun t => s < t ∧ st_ur T s t) 16) i + st_cn (fun t => i < t ∧ st_ur T i t) q))), (2, .int (nI i)), (3, .int (nI q))] := hJ.2.1
    have hI2 : (i < q ∧ q ≤ 16 ∧ st_KI T kn2) := hJ.2.2
    clear hJ
    obtain ⟨j0, j1, j2⟩ := hI2
    refine lv_iload_n hx hb dX0_unrelated_14 rfl (lv_at hl 3 rfl) ?_
    refine lv_bipush (v := nI 16) hx hb dX0_unrelated_15 (by decide) ?_
    refine st_icge (tgt := 55) hx hb dX0_unrelated_17 (by decide) (by omega) (by omega) (fun he => ?_) (fun he => ?_)
    · obtain rfl : q = 16 := by omega
      refine lv_iinc (v := nI (i + 1)) (lv' := [(2, .int (nI (i + 1))), (0, .ref h), (1, .int (nI (st_sum (fun s => st_cn (fun t => s < t ∧ st_ur T s t) 16) i + st_cn (fun t => i < t ∧ st_ur T i t) 16))), (3, .int (nI 16))]) hx hb dX0_unrelated_55 hl (k := 2) rfl (st_inc _) (by decide) rfl (fun ls hl => ?_)
      refine lv_goto (tgt := 4) hx hb dX0_unrelated_58 (by decide) ?_
      exact ih (i + 1, kn2, g2, ak2) _ _ _ ⟨hw, lv_sub hl [1, 2, 0] rfl, ⟨by omega, j2⟩⟩ (by show 17 - (i + 1) < 17 - i; omega)
    · refine lv_aload_n hx hb dX0_unrelated_20 rfl (lv_at hl 0 rfl) ?_
      refine lv_iload_n hx hb dX0_unrelated_21 rfl (lv_at hl 2 rfl) ?_
      refine lv_iload_n hx hb dX0_unrelated_22 rfl (lv_at hl 3 rfl) ?_
      refine st_callT (As := [.int (nI i), .int (nI q)]) (rest := []) E hw (mX0_isSubtype l D A h ad k T kn2 g2 ak2 i q hd he hT j2) (lw_V q94 q96 qs2 q16 q97) hdX0_isSubtype rfl ⟨rfl, rfl⟩ ⟨Nat.le_of_ble_eq_true rfl, Nat.le_of_ble_eq_true rfl⟩ (ci := 0) rfl rfl rfl hl.1 rfl (Nat.le_of_ble_eq_true rfl) dX0_unrelated_23 (fun r u H locs hp hw => ?_)
      obtain ⟨kn3, g3, ak3⟩ := u
      obtain ⟨rfl, p3⟩ := hp
      have hw : st_W D A s.heap (w0 h ad k T (kn3, g3, ak3)) H locs := hw
      refine lv_istore (lv' := [(4, .int (st_p (st_Sb T (i * 16 + q)))), (0, .ref h), (1, .int (nI (st_sum (fun s => st_cn (fun t => s < t ∧ st_ur T s t) 16) i + st_cn (fun t => i < t ∧ st_ur T i t) q))), (2, .int (nI i)), (3, .int (nI q))]) hx hb dX0_unrelated_26 hl (by decide) rfl (fun ls hl => ?_)
      refine lv_aload_n hx hb dX0_unrelated_28 rfl (lv_at hl 1 rfl) ?_
      refine lv_iload_n hx hb dX0_unrelated_29 rfl (lv_at hl 4 rfl) ?_
      refine lv_iload_n hx hb dX0_unrelated_30 rfl (lv_at hl 3 rfl) ?_
      refine st_callT (As := [.int (nI q), .int (nI i)]) (rest := []) E hw (mX0_isSubtype l D A h ad k T kn3 g3 ak3 q i he hd hT p3) (lw_V q94 q96 qs2 q16 q97) hdX0_isSubtype rfl ⟨rfl, rfl⟩ ⟨Nat.le_of_ble_eq_true rfl, Nat.le_of_ble_eq_true rfl⟩ (ci := 0) rfl rfl rfl hl.1 rfl (Nat.le_of_ble_eq_true rfl) dX0_unrelated_31 (fun r u H locs hp hw => ?_)
      obtain ⟨kn4, g4, ak4⟩ := u
      obtain ⟨rfl, p4⟩ := hp
      have hw : st_W D A s.heap (w0 h ad k T (kn4, g4, ak4)) H locs := hw
      refine lv_istore (lv' := [(5, .int (st_p (st_Sb T (q * 16 + i)))), (4, .int (st_p (st_Sb T (i * 16 + q)))), (0, .ref h), (1, .int (nI (st_sum (fun s => st_cn (fun t => s < t ∧ st_ur T s t) 16) i + st_cn (fun t => i < t ∧ st_ur T i t) q))), (2, .int (nI i)), (3, .int (nI q))]) hx hb dX0_unrelated_34 hl (by decide) rfl (fun ls hl => ?_)
      refine lv_iload hx hb dX0_unrelated_36 (lv_at hl 1 rfl) ?_
      refine st_ifnep (tgt := 49) hx hb dX0_unrelated_38 (by decide) (fun hf => ?_) (fun hf => ?_)
      · have hl : lv_has ls 6 [(5, .int (st_p (st_Sb T (q * 16 + i)))), (4, .int (st_p (st_Sb T (i * 16 + q)))), (0, .ref h), (1, .int (nI (st_sum (fun s => st_cn (fun t => s < t ∧ st_ur T s t) 16) i + st_cn (fun t => i < t ∧ st_ur T i t) (q + 1)))), (2, .int (nI i)), (3, .int (nI q))] := by rw [st_cn_f (f := (fun t => i < t ∧ st_ur T i t)) (n := q) (fun z => z.2.1 hf)]; exact hl
        refine lv_iinc (v := nI (q + 1)) (lv' := [(3, .int (nI (q + 1))), (5, .int (st_p (st_Sb T (q * 16 + i)))), (4, .int (st_p (st_Sb T (i * 16 + q)))), (0, .ref h), (1, .int (nI (st_sum (fun s => st_cn (fun t => s < t ∧ st_ur T s t) 16) i + st_cn (fun t => i < t ∧ st_ur T i t) (q + 1)))), (2, .int (nI i))]) hx hb dX0_unrelated_49 hl (k := 5) rfl (st_inc _) (by decide) rfl (fun ls hl => ?_)
        refine lv_goto (tgt := 14) hx hb dX0_unrelated_52 (by decide) ?_
        exact ih2 (q + 1, kn4, g4, ak4) _ _ _ ⟨hw, lv_sub hl [3, 4, 5, 0] rfl, ⟨by omega, by omega, p4⟩⟩ (by show 17 - (q + 1) < 17 - q; omega)
      · refine lv_iload hx hb dX0_unrelated_41 (lv_at hl 0 rfl) ?_
        refine st_ifnep (tgt := 49) hx hb dX0_unrelated_43 (by decide) (fun hg => ?_) (fun hg => ?_)
        · have hl : lv_has ls 6 [(5, .int (st_p (st_Sb T (q * 16 + i)))), (4, .int (st_p (st_Sb T (i * 16 + q)))), (0, .ref h), (1, .int (nI (st_sum (fun s => st_cn (fun t => s < t ∧ st_ur T s t) 16) i + st_cn (fun t => i < t ∧ st_ur T i t) (q + 1)))), (2, .int (nI i)), (3, .int (nI q))] := by rw [st_cn_f (f := (fun t => i < t ∧ st_ur T i t)) (n := q) (fun z => z.2.2 hg)]; exact hl
          refine lv_iinc (v := nI (q + 1)) (lv' := [(3, .int (nI (q + 1))), (5, .int (st_p (st_Sb T (q * 16 + i)))), (4, .int (st_p (st_Sb T (i * 16 + q)))), (0, .ref h), (1, .int (nI (st_sum (fun s => st_cn (fun t => s < t ∧ st_ur T s t) 16) i + st_cn (fun t => i < t ∧ st_ur T i t) (q + 1)))), (2, .int (nI i))]) hx hb dX0_unrelated_49 hl (k := 5) rfl (st_inc _) (by decide) rfl (fun ls hl => ?_)
          refine lv_goto (tgt := 14) hx hb dX0_unrelated_52 (by decide) ?_
          exact ih2 (q + 1, kn4, g4, ak4) _ _ _ ⟨hw, lv_sub hl [3, 4, 5, 0] rfl, ⟨by omega, by omega, p4⟩⟩ (by show 17 - (q + 1) < 17 - q; omega)
        · refine lv_iinc (v := nI (st_sum (fun s => st_cn (fun t => s < t ∧ st_ur T s t) 16) i + st_cn (fun t => i < t ∧ st_ur T i t) q + 1)) (lv' := [(1, .int (nI (st_sum (fun s => st_cn (fun t => s < t ∧ st_ur T s t) 16) i + st_cn (fun t => i < t ∧ st_ur T i t) q + 1))), (5, .int (st_p (st_Sb T (q * 16 + i)))), (4, .int (st_p (st_Sb T (i * 16 + q)))), (0, .ref h), (2, .int (nI i)), (3, .int (nI q))]) hx hb dX0_unrelated_46 hl (k := 3) rfl (st_inc _) (by decide) rfl (fun ls hl => ?_)
          have hl : lv_has ls 6 [(1, .int (nI (st_sum (fun s => st_cn (fun t => s < t ∧ st_ur T s t) 16) i + st_cn (fun t => i < t ∧ st_ur T i t) (q + 1)))), (5, .int (st_p (st_Sb T (q * 16 + i)))), (4, .int (st_p (st_Sb T (i * 16 + q)))), (0, .ref h), (2, .int (nI i)), (3, .int (nI q))] := by rw [st_cn_t (f := (fun t => i < t ∧ st_ur T i t)) (n := q) ⟨by omega, hf, hg⟩]; exact hl
          refine lv_iinc (v := nI (q + 1)) (lv' := [(3, .int (nI (q + 1))), (1, .int (nI (st_sum (fun s => st_cn (fun t => s < t ∧ st_ur T s t) 16) i + st_cn (fun t => i < t ∧ st_ur T i t) (q + 1)))), (5, .int (st_p (st_Sb T (q * 16 + i)))), (4, .int (st_p (st_Sb T (i * 16 + q)))), (0, .ref h), (2, .int (nI i))]) hx hb dX0_unrelated_49 hl (k := 5) rfl (st_inc _) (by decide) rfl (fun ls hl => ?_)
          refine lv_goto (tgt := 14) hx hb dX0_unrelated_52 (by decide) ?_
          exact ih2 (q + 1, kn4, g4, ak4) _ _ _ ⟨hw, lv_sub hl [4, 1, 5, 0] rfl, ⟨by omega, by omega, p4⟩⟩ (by show 17 - (q + 1) < 17 - q; omega)
set_option maxHeartbeats 4000000 in
set_option maxRecDepth 100000 in
/-- shapeOf(x) -/
theorem mX0_shapeOf (l : Launch) (D : va_G) (A : Nat → Prop) (h : Nat) (ad : Nat → Nat) (k : Nat → ClassId) (T : TT) (kn : Nat → Nat) (g : Sr) (ak : Option Nat) (x : Int32) (hT : st_wf T) (hK : st_KI T kn) : Met l yX0_shapeOf (ws_ yX0_shapeOf cX0_shapeOf 2 (some .int)) ({ frames := 1, cells := 0, slots := 0, locals := 20 }) (va_Pc [.ref h, .int (x)] (st_I D A (w0 h ad k T (kn, g, ak)) (ty0 k))) (va_Qi (fun (r : Int32) (u : S0) => r = st_soR T x ∧ st_KI T u.1) (fun u t => st_I D A (w0 h ad k T u) (ty0 k) t) A) 0 0 A := by
  refine st_start (by decide) (Nat.le_of_ble_eq_true rfl) (fun p e s m below meth c E hr hlk hw ls hl => ?_)
  have hx := E.1
  have hb := E.2.1
  have E : st_E p s m c cX0_shapeOf 2 _ RX0 D (ty0 k) := E
  have hl : lv_has ls 2 [(0, .ref h), (1, .int (x))] := hl
  refine lv_iload_n hx hb dX0_shapeOf_0 rfl (lv_at hl 1 rfl) ?_
  refine st_callS (As := [.int (x)]) (rest := []) E hw (mX0_bad l D A (w0 h ad k T (kn, g, ak)) (ty0 k) x) (lw_S q67 q68 q16 q69) hdX0_bad rfl ⟨rfl, rfl⟩ ⟨Nat.le_of_ble_eq_true rfl, Nat.le_of_ble_eq_true rfl⟩ hl.1 rfl (Nat.le_of_ble_eq_true rfl) dX0_shapeOf_1 (fun r u H locs hp hw => ?_)
  subst hp
  have hw : st_W D A s.heap (w0 h ad k T (kn, g, ak)) H locs := hw
  refine st_ifeqp (tgt := 11) hx hb dX0_shapeOf_4 (by decide) (fun hc => ?_) (fun hc => ?_)
  · obtain ⟨a, h_a, rfl⟩ := st_ty_s hc
    refine lv_aload_n hx hb dX0_shapeOf_11 rfl (lv_at hl 0 rfl) ?_
    refine st_get0 E hw rfl 0 (by decide) q26 (v := .ref (ad 0)) rfl dX0_shapeOf_12 ?_
    refine lv_iload_n hx hb dX0_shapeOf_15 rfl (lv_at hl 1 rfl) ?_
    refine st_iald E hw 1 0 rfl rfl (i := a) (by omega) (by decide) (v := nI ((tS T) a)) rfl dX0_shapeOf_16 ?_
    exact st_ri E hr hlk (kn, g, ak) hw ⟨by simp only [st_soR, st_ty_n h_a], hK⟩ dX0_shapeOf_17
  · refine lv_iconst (v := st_o none) hx hb dX0_shapeOf_7 (by decide) ?_
    refine lv_goto (tgt := 17) hx hb dX0_shapeOf_8 (by decide) ?_
    exact st_ri E hr hlk (kn, g, ak) hw ⟨by simp only [st_soR, hc]; rfl, hK⟩ dX0_shapeOf_17
end
section
/-! StructuralTypes: the changes -/
set_option maxHeartbeats 4000000 in
set_option maxRecDepth 100000 in
/-- shape(x, y) -/
theorem mX0_shape (l : Launch) (D : va_G) (A : Nat → Prop) (h : Nat) (ad : Nat → Nat) (k : Nat → ClassId) (T : TT) (kn : Nat → Nat) (g : Sr) (ak : Option Nat) (x y : Int32) (hK : st_KI T kn) : Met l yX0_shape (ws_ yX0_shape cX0_shape 3 (some .int)) ({ frames := 2, cells := 0, slots := 0, locals := 45 }) (va_Pc [.ref h, .int (x), .int (y)] (st_I D A (w0 h ad k T (kn, g, ak)) (ty0 k))) (va_Qi (fun (r : Int32) (u : S0) => r = st_shR T x y ∧ st_KI (st_shT0 T x y) u.1) (fun u t => st_I D A (w0 h ad k (st_shT0 T x y) u) (ty0 k) t) A) 0 0 A := by
  refine st_start (by decide) (Nat.le_of_ble_eq_true rfl) (fun p e s m below meth c E hr hlk hw ls hl => ?_)
  have hx := E.1
  have hb := E.2.1
  have E : st_E p s m c cX0_shape 3 _ RX0 D (ty0 k) := E
  have hl : lv_has ls 3 [(0, .ref h), (1, .int (x)), (2, .int (y))] := hl
  refine lv_iload_n hx hb dX0_shape_0 rfl (lv_at hl 1 rfl) ?_
  refine st_callS (As := [.int (x)]) (rest := []) E hw (mX0_bad l D A (w0 h ad k T (kn, g, ak)) (ty0 k) x) (lw_S q67 q68 q16 q69) hdX0_bad rfl ⟨rfl, rfl⟩ ⟨Nat.le_of_ble_eq_true rfl, Nat.le_of_ble_eq_true rfl⟩ hl.1 rfl (Nat.le_of_ble_eq_true rfl) dX0_shape_1 (fun r u H locs hp hw => ?_)
  subst hp
  have hw : st_W D A s.heap (w0 h ad k T (kn, g, ak)) H locs := hw
  refine st_ifeqp (tgt := 9) hx hb dX0_shape_4 (by decide) (fun hc => ?_) (fun hc => ?_)
  · obtain ⟨a, h_a, rfl⟩ := st_ty_s hc
    refine lv_iload_n hx hb dX0_shape_9 rfl (lv_at hl 2 rfl) ?_
    refine lv_if_lt (tgt := 23) hx hb dX0_shape_10 (by decide) (fun hd => ?_) (fun hd => ?_)
    · have hb4 := st_sc_b (x := y) (Or.inl hd)
      refine lv_bipush (v := (-4)) hx hb dX0_shape_23 (by decide) ?_
      have e : st_shT0 T (nI a) y = T := by simp only [st_shT0, st_ty_n h_a, hb4]
      exact st_ri E hr hlk (kn, g, ak) (by show st_W D A s.heap (w0 h ad k (st_shT0 T (nI a) y) (kn, g, ak)) _ _; rw [e]; exact hw) ⟨by simp only [st_shR, st_ty_n h_a, hb4] <;> rfl, by rw [e]; exact hK⟩ dX0_shape_25
    · refine lv_iload_n hx hb dX0_shape_13 rfl (lv_at hl 2 rfl) ?_
      refine lv_iconst (v := nI 5) hx hb dX0_shape_14 (by decide) ?_
      refine lv_icmp_gt (tgt := 23) hx hb dX0_shape_15 (by decide) (fun he => ?_) (fun he => ?_)
      · have hb4 := st_sc_b (x := y) (Or.inr (Or.inl he))
        refine lv_bipush (v := (-4)) hx hb dX0_shape_23 (by decide) ?_
        have e : st_shT0 T (nI a) y = T := by simp only [st_shT0, st_ty_n h_a, hb4]
        exact st_ri E hr hlk (kn, g, ak) (by show st_W D A s.heap (w0 h ad k (st_shT0 T (nI a) y) (kn, g, ak)) _ _; rw [e]; exact hw) ⟨by simp only [st_shR, st_ty_n h_a, hb4] <;> rfl, by rw [e]; exact hK⟩ dX0_shape_25
      · refine lv_iload_n hx hb dX0_shape_18 rfl (lv_at hl 2 rfl) ?_
        refine lv_iconst (v := nI 4) hx hb dX0_shape_19 (by decide) ?_
        refine lv_icmp_ne (tgt := 26) hx hb dX0_shape_20 (by decide) (fun hf => ?_) (fun hf => ?_)
        · obtain ⟨b, h_b, h_4, rfl⟩ := st_sc_s hd he hf
          refine lv_aload_n hx hb dX0_shape_26 rfl (lv_at hl 0 rfl) ?_
          refine lv_iload_n hx hb dX0_shape_27 rfl (lv_at hl 1 rfl) ?_
          refine lv_iload_n hx hb dX0_shape_28 rfl (lv_at hl 2 rfl) ?_
          refine st_callT (As := [.int (nI a), .int (nI b)]) (rest := []) E hw (mX0_become l D A h ad k T kn g ak a b h_a) (lw_V q70 q72 qs0 q16 q73) hdX0_become rfl ⟨rfl, rfl⟩ ⟨Nat.le_of_ble_eq_true rfl, Nat.le_of_ble_eq_true rfl⟩ (ci := 0) rfl rfl rfl hl.1 rfl (Nat.le_of_ble_eq_true rfl) dX0_shape_29 (fun r u H locs hp hw => ?_)
          subst hp
          have hw : st_W D A s.heap (w0 h ad k (va_up (tS T) a b, tA T, tR T, st_cl none (tF T) a 4, st_cl false (tO T) a 4) (fun _ => 0, g, ak)) H locs := hw
          have e : st_shT0 T (nI a) (nI b) = (va_up (tS T) a b, tA T, tR T, st_cl none (tF T) a 4, st_cl false (tO T) a 4) := by simp only [st_shT0, st_ty_n h_a, st_sc_n h_b h_4]
          exact st_ri E hr hlk (fun _ => 0, g, ak) (by show st_W D A s.heap (w0 h ad k (st_shT0 T (nI a) (nI b)) (fun _ => 0, g, ak)) _ _; rw [e]; exact hw) ⟨by simp only [st_shR, st_ty_n h_a, st_sc_n h_b h_4], st_KI_0⟩ dX0_shape_32
        · have hb4 := st_sc_b (x := y) (Or.inr (Or.inr hf))
          refine lv_bipush (v := (-4)) hx hb dX0_shape_23 (by decide) ?_
          have e : st_shT0 T (nI a) y = T := by simp only [st_shT0, st_ty_n h_a, hb4]
          exact st_ri E hr hlk (kn, g, ak) (by show st_W D A s.heap (w0 h ad k (st_shT0 T (nI a) y) (kn, g, ak)) _ _; rw [e]; exact hw) ⟨by simp only [st_shR, st_ty_n h_a, hb4] <;> rfl, by rw [e]; exact hK⟩ dX0_shape_25
  · refine lv_iconst (v := st_o none) hx hb dX0_shape_7 (by decide) ?_
    have e : st_shT0 T x y = T := by simp only [st_shT0, hc]
    exact st_ri E hr hlk (kn, g, ak) (by show st_W D A s.heap (w0 h ad k (st_shT0 T x y) (kn, g, ak)) _ _; rw [e]; exact hw) ⟨by simp only [st_shR, hc] <;> rfl, by rw [e]; exact hK⟩ dX0_shape_8
set_option maxHeartbeats 4000000 in
set_option maxRecDepth 100000 in
/-- fun(x, y, z) -/
theorem mX0_fun (l : Launch) (D : va_G) (A : Nat → Prop) (h : Nat) (ad : Nat → Nat) (k : Nat → ClassId) (T : TT) (kn : Nat → Nat) (g : Sr) (ak : Option Nat) (x y z : Int32) (hK : st_KI T kn) : Met l yX0_fun (ws_ yX0_fun cX0_fun 5 (some .int)) ({ frames := 2, cells := 0, slots := 0, locals := 45 }) (va_Pc [.ref h, .int (x), .int (y), .int (z)] (st_I D A (w0 h ad k T (kn, g, ak)) (ty0 k))) (va_Qi (fun (r : Int32) (u : S0) => r = st_fnR T x y z ∧ st_KI (st_fnT0 T x y z) u.1) (fun u t => st_I D A (w0 h ad k (st_fnT0 T x y z) u) (ty0 k) t) A) 0 0 A := by
  refine st_start (by decide) (Nat.le_of_ble_eq_true rfl) (fun p e s m below meth c E hr hlk hw ls hl => ?_)
  have hx := E.1
  have hb := E.2.1
  have E : st_E p s m c cX0_fun 5 _ RX0 D (ty0 k) := E
  have hl : lv_has ls 5 [(0, .ref h), (1, .int (x)), (2, .int (y)), (3, .int (z))] := hl
  refine lv_iload_n hx hb dX0_fun_0 rfl (lv_at hl 1 rfl) ?_
  refine st_callS (As := [.int (x)]) (rest := []) E hw (mX0_bad l D A (w0 h ad k T (kn, g, ak)) (ty0 k) x) (lw_S q67 q68 q16 q69) hdX0_bad rfl ⟨rfl, rfl⟩ ⟨Nat.le_of_ble_eq_true rfl, Nat.le_of_ble_eq_true rfl⟩ hl.1 rfl (Nat.le_of_ble_eq_true rfl) dX0_fun_1 (fun r u H locs hp hw => ?_)
  subst hp
  have hw : st_W D A s.heap (w0 h ad k T (kn, g, ak)) H locs := hw
  refine st_ifnep (tgt := 21) hx hb dX0_fun_4 (by decide) (fun hc => ?_) (fun hc => ?_)
  · refine lv_iconst (v := st_o none) hx hb dX0_fun_21 (by decide) ?_
    have e : st_fnT0 T x y z = T := by simp only [st_fnT0, hc]
    exact st_ri E hr hlk (kn, g, ak) (by show st_W D A s.heap (w0 h ad k (st_fnT0 T x y z) (kn, g, ak)) _ _; rw [e]; exact hw) ⟨by simp only [st_fnR, hc] <;> rfl, by rw [e]; exact hK⟩ dX0_fun_22
  · obtain ⟨a, h_a, rfl⟩ := st_ty_s hc
    refine lv_iload_n hx hb dX0_fun_7 rfl (lv_at hl 2 rfl) ?_
    refine st_callS (As := [.int (y)]) (rest := []) E hw (mX0_bad l D A (w0 h ad k T (kn, g, ak)) (ty0 k) y) (lw_S q67 q68 q16 q69) hdX0_bad rfl ⟨rfl, rfl⟩ ⟨Nat.le_of_ble_eq_true rfl, Nat.le_of_ble_eq_true rfl⟩ hl.1 rfl (Nat.le_of_ble_eq_true rfl) dX0_fun_8 (fun r u H locs hp hw => ?_)
    subst hp
    have hw : st_W D A s.heap (w0 h ad k T (kn, g, ak)) H locs := hw
    refine st_ifnep (tgt := 21) hx hb dX0_fun_11 (by decide) (fun hd => ?_) (fun hd => ?_)
    · refine lv_iconst (v := st_o none) hx hb dX0_fun_21 (by decide) ?_
      have e : st_fnT0 T (nI a) y z = T := by simp only [st_fnT0, st_ty_n h_a, hd]
      exact st_ri E hr hlk (kn, g, ak) (by show st_W D A s.heap (w0 h ad k (st_fnT0 T (nI a) y z) (kn, g, ak)) _ _; rw [e]; exact hw) ⟨by simp only [st_fnR, st_ty_n h_a, hd] <;> rfl, by rw [e]; exact hK⟩ dX0_fun_22
    · obtain ⟨b, h_b, rfl⟩ := st_ty_s hd
      refine lv_iload_n hx hb dX0_fun_14 rfl (lv_at hl 3 rfl) ?_
      refine st_callS (As := [.int (z)]) (rest := []) E hw (mX0_bad l D A (w0 h ad k T (kn, g, ak)) (ty0 k) z) (lw_S q67 q68 q16 q69) hdX0_bad rfl ⟨rfl, rfl⟩ ⟨Nat.le_of_ble_eq_true rfl, Nat.le_of_ble_eq_true rfl⟩ hl.1 rfl (Nat.le_of_ble_eq_true rfl) dX0_fun_15 (fun r u H locs hp hw => ?_)
      subst hp
      have hw : st_W D A s.heap (w0 h ad k T (kn, g, ak)) H locs := hw
      refine st_ifeqp (tgt := 23) hx hb dX0_fun_18 (by decide) (fun he => ?_) (fun he => ?_)
      · obtain ⟨d, h_d, rfl⟩ := st_ty_s he
        refine lv_aload_n hx hb dX0_fun_23 rfl (lv_at hl 0 rfl) ?_
        refine lv_iload_n hx hb dX0_fun_24 rfl (lv_at hl 1 rfl) ?_
        refine lv_iconst (v := nI 4) hx hb dX0_fun_25 (by decide) ?_
        refine st_callT (As := [.int (nI a), .int (nI 4)]) (rest := []) E hw (mX0_become l D A h ad k T kn g ak a 4 h_a) (lw_V q70 q72 qs0 q16 q73) hdX0_become rfl ⟨rfl, rfl⟩ ⟨Nat.le_of_ble_eq_true rfl, Nat.le_of_ble_eq_true rfl⟩ (ci := 0) rfl rfl rfl hl.1 rfl (Nat.le_of_ble_eq_true rfl) dX0_fun_26 (fun r u H locs hp hw => ?_)
        subst hp
        have hw : st_W D A s.heap (w0 h ad k (va_up (tS T) a 4, tA T, tR T, st_cl none (tF T) a 4, st_cl false (tO T) a 4) (fun _ => 0, g, ak)) H locs := hw
        refine lv_istore (lv' := [(4, .int (nI (tS T a))), (0, .ref h), (1, .int (nI a)), (2, .int (nI b)), (3, .int (nI d))]) hx hb dX0_fun_29 hl (by decide) rfl (fun ls hl => ?_)
        refine lv_aload_n hx hb dX0_fun_31 rfl (lv_at hl 1 rfl) ?_
        refine st_get0 E hw rfl 1 (by decide) q27 (v := .ref (ad 1)) rfl dX0_fun_32 ?_
        refine lv_iload_n hx hb dX0_fun_35 rfl (lv_at hl 2 rfl) ?_
        refine lv_iload_n hx hb dX0_fun_36 rfl (lv_at hl 3 rfl) ?_
        refine st_iast E hw 2 0 rfl rfl (i := a) (by omega) (by decide) (fun j => nI ((va_up (tA T) a b) j)) (fun j => st_up nI _ _ b j) dX0_fun_37 (fun H locs (hw : st_W D A s.heap (w0 h ad k (va_up (tS T) a 4, va_up (tA T) a b, tR T, st_cl none (tF T) a 4, st_cl false (tO T) a 4) (fun _ => 0, g, ak)) H locs) => ?_)
        refine lv_aload_n hx hb dX0_fun_38 rfl (lv_at hl 1 rfl) ?_
        refine st_get0 E hw rfl 2 (by decide) q28 (v := .ref (ad 2)) rfl dX0_fun_39 ?_
        refine lv_iload_n hx hb dX0_fun_42 rfl (lv_at hl 2 rfl) ?_
        refine lv_iload_n hx hb dX0_fun_43 rfl (lv_at hl 4 rfl) ?_
        refine st_iast E hw 3 0 rfl rfl (i := a) (by omega) (by decide) (fun j => nI ((va_up (tR T) a d) j)) (fun j => st_up nI _ _ d j) dX0_fun_44 (fun H locs (hw : st_W D A s.heap (w0 h ad k (va_up (tS T) a 4, va_up (tA T) a b, va_up (tR T) a d, st_cl none (tF T) a 4, st_cl false (tO T) a 4) (fun _ => 0, g, ak)) H locs) => ?_)
        refine lv_iload hx hb dX0_fun_45 (lv_at hl 0 rfl) ?_
        have e : st_fnT0 T (nI a) (nI b) (nI d) = (va_up (tS T) a 4, va_up (tA T) a b, va_up (tR T) a d, st_cl none (tF T) a 4, st_cl false (tO T) a 4) := by simp only [st_fnT0, st_ty_n h_a, st_ty_n h_b, st_ty_n h_d]
        exact st_ri E hr hlk (fun _ => 0, g, ak) (by show st_W D A s.heap (w0 h ad k (st_fnT0 T (nI a) (nI b) (nI d)) (fun _ => 0, g, ak)) _ _; rw [e]; exact hw) ⟨by simp only [st_fnR, st_ty_n h_a, st_ty_n h_b, st_ty_n h_d], st_KI_0⟩ dX0_fun_47
      · refine lv_iconst (v := st_o none) hx hb dX0_fun_21 (by decide) ?_
        have e : st_fnT0 T (nI a) (nI b) z = T := by simp only [st_fnT0, st_ty_n h_a, st_ty_n h_b, he]
        exact st_ri E hr hlk (kn, g, ak) (by show st_W D A s.heap (w0 h ad k (st_fnT0 T (nI a) (nI b) z) (kn, g, ak)) _ _; rw [e]; exact hw) ⟨by simp only [st_fnR, st_ty_n h_a, st_ty_n h_b, he] <;> rfl, by rw [e]; exact hK⟩ dX0_fun_22
set_option maxHeartbeats 4000000 in
set_option maxRecDepth 100000 in
/-- field(x, y, z, v) -/
theorem mX0_field (l : Launch) (D : va_G) (A : Nat → Prop) (h : Nat) (ad : Nat → Nat) (k : Nat → ClassId) (T : TT) (kn : Nat → Nat) (g : Sr) (ak : Option Nat) (x y z v : Int32) (hT : st_wf T) (hK : st_KI T kn) : Met l yX0_field (ws_ yX0_field cX0_field 7 (some .int)) ({ frames := 1, cells := 0, slots := 0, locals := 21 }) (va_Pc [.ref h, .int (x), .int (y), .int (z), .int (v)] (st_I D A (w0 h ad k T (kn, g, ak)) (ty0 k))) (va_Qi (fun (r : Int32) (u : S0) => r = st_fdR T x y z ∧ st_KI (st_fdT T x y z v) u.1) (fun u t => st_I D A (w0 h ad k (st_fdT T x y z v) u) (ty0 k) t) A) 0 0 A := by
  refine st_start (by decide) (Nat.le_of_ble_eq_true rfl) (fun p e s m below meth c E hr hlk hw ls hl => ?_)
  have hx := E.1
  have hb := E.2.1
  have E : st_E p s m c cX0_field 7 _ RX0 D (ty0 k) := E
  have hl : lv_has ls 7 [(0, .ref h), (1, .int (x)), (2, .int (y)), (3, .int (z)), (4, .int (v))] := hl
  refine lv_iload_n hx hb dX0_field_0 rfl (lv_at hl 1 rfl) ?_
  refine st_callS (As := [.int (x)]) (rest := []) E hw (mX0_bad l D A (w0 h ad k T (kn, g, ak)) (ty0 k) x) (lw_S q67 q68 q16 q69) hdX0_bad rfl ⟨rfl, rfl⟩ ⟨Nat.le_of_ble_eq_true rfl, Nat.le_of_ble_eq_true rfl⟩ hl.1 rfl (Nat.le_of_ble_eq_true rfl) dX0_field_1 (fun r u H locs hp hw => ?_)
  subst hp
  have hw : st_W D A s.heap (w0 h ad k T (kn, g, ak)) H locs := hw
  refine st_ifnep (tgt := 14) hx hb dX0_field_4 (by decide) (fun hc => ?_) (fun hc => ?_)
  · refine lv_iconst (v := st_o none) hx hb dX0_field_14 (by decide) ?_
    have e : st_fdT T x y z v = T := by simp only [st_fdT, hc]
    exact st_ri E hr hlk (kn, g, ak) (by show st_W D A s.heap (w0 h ad k (st_fdT T x y z v) (kn, g, ak)) _ _; rw [e]; exact hw) ⟨by simp only [st_fdR, hc] <;> rfl, by rw [e]; exact hK⟩ dX0_field_15
  · obtain ⟨a, h_a, rfl⟩ := st_ty_s hc
    refine lv_iload_n hx hb dX0_field_7 rfl (lv_at hl 3 rfl) ?_
    refine st_callS (As := [.int (z)]) (rest := []) E hw (mX0_bad l D A (w0 h ad k T (kn, g, ak)) (ty0 k) z) (lw_S q67 q68 q16 q69) hdX0_bad rfl ⟨rfl, rfl⟩ ⟨Nat.le_of_ble_eq_true rfl, Nat.le_of_ble_eq_true rfl⟩ hl.1 rfl (Nat.le_of_ble_eq_true rfl) dX0_field_8 (fun r u H locs hp hw => ?_)
    subst hp
    have hw : st_W D A s.heap (w0 h ad k T (kn, g, ak)) H locs := hw
    refine st_ifeqp (tgt := 16) hx hb dX0_field_11 (by decide) (fun hd => ?_) (fun hd => ?_)
    · obtain ⟨d, h_d, rfl⟩ := st_ty_s hd
      refine lv_iload_n hx hb dX0_field_16 rfl (lv_at hl 2 rfl) ?_
      refine lv_if_lt (tgt := 25) hx hb dX0_field_17 (by decide) (fun hf => ?_) (fun hf => ?_)
      · have hb4 := st_lb_b (x := y) (Or.inl hf)
        refine lv_bipush (v := (-2)) hx hb dX0_field_25 (by decide) ?_
        have e : st_fdT T (nI a) y (nI d) v = T := by simp only [st_fdT, st_ty_n h_a, st_ty_n h_d, hb4]
        exact st_ri E hr hlk (kn, g, ak) (by show st_W D A s.heap (w0 h ad k (st_fdT T (nI a) y (nI d) v) (kn, g, ak)) _ _; rw [e]; exact hw) ⟨by simp only [st_fdR, st_ty_n h_a, st_ty_n h_d, hb4] <;> rfl, by rw [e]; exact hK⟩ dX0_field_27
      · refine lv_iload_n hx hb dX0_field_20 rfl (lv_at hl 2 rfl) ?_
        refine lv_iconst (v := nI 4) hx hb dX0_field_21 (by decide) ?_
        refine lv_icmp_lt (tgt := 28) hx hb dX0_field_22 (by decide) (fun hg => ?_) (fun hg => ?_)
        · obtain ⟨l1, h_l, rfl⟩ := st_lb_s hf (Int32.not_le.mpr hg)
          have h_s := hT.1 a
          refine lv_aload_n hx hb dX0_field_28 rfl (lv_at hl 0 rfl) ?_
          refine st_get0 E hw rfl 0 (by decide) q26 (v := .ref (ad 0)) rfl dX0_field_29 ?_
          refine lv_iload_n hx hb dX0_field_32 rfl (lv_at hl 1 rfl) ?_
          refine st_iald E hw 1 0 rfl rfl (i := a) (by omega) (by decide) (v := nI ((tS T) a)) rfl dX0_field_33 ?_
          refine lv_iconst (v := nI 5) hx hb dX0_field_34 (by decide) ?_
          refine st_iceq (tgt := 41) hx hb dX0_field_35 (by decide) (by omega) (by omega) (fun h5 => ?_) (fun h5 => ?_)
          · refine lv_iload_n hx hb dX0_field_41 rfl (lv_at hl 1 rfl) ?_
            refine lv_iconst (v := nI 4) hx hb dX0_field_42 (by decide) ?_
            refine st_imul hx hb dX0_field_43 ?_
            refine lv_iload_n hx hb dX0_field_44 rfl (lv_at hl 2 rfl) ?_
            refine st_iadd hx hb dX0_field_45 ?_
            refine lv_istore (lv' := [(5, .int (nI (a * 4 + l1))), (0, .ref h), (1, .int (nI a)), (2, .int (nI l1)), (3, .int (nI d)), (4, .int (v))]) hx hb dX0_field_46 hl (by decide) rfl (fun ls hl => ?_)
            refine lv_aload_n hx hb dX0_field_48 rfl (lv_at hl 1 rfl) ?_
            refine st_get0 E hw rfl 3 (by decide) q29 (v := .ref (ad 3)) rfl dX0_field_49 ?_
            refine lv_iload hx hb dX0_field_52 (lv_at hl 0 rfl) ?_
            refine st_iald E hw 4 0 rfl rfl (i := a * 4 + l1) (by omega) (by decide) (v := st_o ((tF T) (a * 4 + l1))) rfl dX0_field_54 ?_
            refine st_dialt (v := (st_had (tF T (a * 4 + l1)))) hx hb dX0_field_55 dX0_field_58 dX0_field_59 dX0_field_62 (st_had0 (fun z hz => by have := hT.2.2.2 _ _ hz; omega)) (st_had1) ?_
            refine lv_istore (lv' := [(6, .int ((st_had (tF T (a * 4 + l1))))), (5, .int (nI (a * 4 + l1))), (0, .ref h), (1, .int (nI a)), (2, .int (nI l1)), (3, .int (nI d)), (4, .int (v))]) hx hb dX0_field_63 hl (by decide) rfl (fun ls hl => ?_)
            refine lv_aload_n hx hb dX0_field_65 rfl (lv_at hl 2 rfl) ?_
            refine st_get0 E hw rfl 3 (by decide) q29 (v := .ref (ad 3)) rfl dX0_field_66 ?_
            refine lv_iload hx hb dX0_field_69 (lv_at hl 1 rfl) ?_
            refine lv_iload_n hx hb dX0_field_71 rfl (lv_at hl 5 rfl) ?_
            refine st_iast E hw 4 0 rfl rfl (i := a * 4 + l1) (by omega) (by decide) (fun j => st_o ((va_up (tF T) (a * 4 + l1) (some d)) j)) (fun j => st_up st_o _ _ (some d) j) dX0_field_72 (fun H locs (hw : st_W D A s.heap (w0 h ad k (tS T, tA T, tR T, va_up (tF T) (a * 4 + l1) (some d), tO T) (kn, g, ak)) H locs) => ?_)
            refine lv_aload_n hx hb dX0_field_73 rfl (lv_at hl 2 rfl) ?_
            refine st_get0 E hw rfl 4 (by decide) q30 (v := .ref (ad 4)) rfl dX0_field_74 ?_
            refine lv_iload hx hb dX0_field_77 (lv_at hl 1 rfl) ?_
            refine lv_iload hx hb dX0_field_79 (lv_at hl 6 rfl) ?_
            refine st_diaeq (v := st_b (decide (v ≠ 0))) hx hb dX0_field_81 dX0_field_84 dX0_field_85 dX0_field_88 (st_bd0) (st_bd1) ?_
            refine st_zast E hw 5 1 rfl rfl (i := a * 4 + l1) (by omega) (by decide) (st_b (decide (v ≠ 0))) (st_nb (decide (v ≠ 0))) (fun j => st_b ((va_up (tO T) (a * 4 + l1) (decide (v ≠ 0))) j)) (fun j => st_up st_b _ _ (decide (v ≠ 0)) j) dX0_field_89 (fun H locs (hw : st_W D A s.heap (w0 h ad k (tS T, tA T, tR T, va_up (tF T) (a * 4 + l1) (some d), va_up (tO T) (a * 4 + l1) (decide (v ≠ 0))) (kn, g, ak)) H locs) => ?_)
            refine lv_aload_n hx hb dX0_field_90 rfl (lv_at hl 2 rfl) ?_
            refine st_callTv (As := []) (rest := []) E hw (mX0_forgetAll l D A h ad k (tS T, tA T, tR T, va_up (tF T) (a * 4 + l1) (some d), va_up (tO T) (a * 4 + l1) (decide (v ≠ 0))) kn g ak) (lw_V q74 q76 qs1 q16 q77) hdX0_forgetAll rfl ⟨rfl, rfl⟩ ⟨Nat.le_of_ble_eq_true rfl, Nat.le_of_ble_eq_true rfl⟩ (ci := 0) rfl rfl rfl hl.1 rfl (Nat.le_of_ble_eq_true rfl) dX0_field_91 (fun u H locs hp hw => ?_)
            have hw : st_W D A s.heap (w0 h ad k (tS T, tA T, tR T, va_up (tF T) (a * 4 + l1) (some d), va_up (tO T) (a * 4 + l1) (decide (v ≠ 0))) (fun _ => 0, g, ak)) H locs := hw
            refine lv_iload hx hb dX0_field_94 (lv_at hl 0 rfl) ?_
            have e : st_fdT T (nI a) (nI l1) (nI d) v = (tS T, tA T, tR T, va_up (tF T) (a * 4 + l1) (some d), va_up (tO T) (a * 4 + l1) (decide (v ≠ 0))) := by simp only [st_fdT, st_ty_n h_a, st_ty_n h_d, st_lb_n h_l, if_pos h5, st_set]
            exact st_ri E hr hlk (fun _ => 0, g, ak) (by show st_W D A s.heap (w0 h ad k (st_fdT T (nI a) (nI l1) (nI d) v) (fun _ => 0, g, ak)) _ _; rw [e]; exact hw) ⟨by simp only [st_fdR, st_ty_n h_a, st_ty_n h_d, st_lb_n h_l, if_pos h5], st_KI_0⟩ dX0_field_96
          · refine lv_bipush (v := (-3)) hx hb dX0_field_38 (by decide) ?_
            have e : st_fdT T (nI a) (nI l1) (nI d) v = T := by simp only [st_fdT, st_ty_n h_a, st_ty_n h_d, st_lb_n h_l, if_neg h5]
            exact st_ri E hr hlk (kn, g, ak) (by show st_W D A s.heap (w0 h ad k (st_fdT T (nI a) (nI l1) (nI d) v) (kn, g, ak)) _ _; rw [e]; exact hw) ⟨by simp only [st_fdR, st_ty_n h_a, st_ty_n h_d, st_lb_n h_l, if_neg h5] <;> rfl, by rw [e]; exact hK⟩ dX0_field_40
        · have hb4 := st_lb_b (x := y) (Or.inr (Int32.not_lt.mp hg))
          refine lv_bipush (v := (-2)) hx hb dX0_field_25 (by decide) ?_
          have e : st_fdT T (nI a) y (nI d) v = T := by simp only [st_fdT, st_ty_n h_a, st_ty_n h_d, hb4]
          exact st_ri E hr hlk (kn, g, ak) (by show st_W D A s.heap (w0 h ad k (st_fdT T (nI a) y (nI d) v) (kn, g, ak)) _ _; rw [e]; exact hw) ⟨by simp only [st_fdR, st_ty_n h_a, st_ty_n h_d, hb4] <;> rfl, by rw [e]; exact hK⟩ dX0_field_27
    · refine lv_iconst (v := st_o none) hx hb dX0_field_14 (by decide) ?_
      have e : st_fdT T (nI a) y z v = T := by simp only [st_fdT, st_ty_n h_a, hd]
      exact st_ri E hr hlk (kn, g, ak) (by show st_W D A s.heap (w0 h ad k (st_fdT T (nI a) y z v) (kn, g, ak)) _ _; rw [e]; exact hw) ⟨by simp only [st_fdR, st_ty_n h_a, hd] <;> rfl, by rw [e]; exact hK⟩ dX0_field_15
set_option maxHeartbeats 4000000 in
set_option maxRecDepth 100000 in
/-- dropField(x, y) -/
theorem mX0_dropField (l : Launch) (D : va_G) (A : Nat → Prop) (h : Nat) (ad : Nat → Nat) (k : Nat → ClassId) (T : TT) (kn : Nat → Nat) (g : Sr) (ak : Option Nat) (x y : Int32) (hT : st_wf T) (hK : st_KI T kn) : Met l yX0_dropField (ws_ yX0_dropField cX0_dropField 5 (some .int)) ({ frames := 1, cells := 0, slots := 0, locals := 21 }) (va_Pc [.ref h, .int (x), .int (y)] (st_I D A (w0 h ad k T (kn, g, ak)) (ty0 k))) (va_Qi (fun (r : Int32) (u : S0) => r = st_dpR T x y ∧ st_KI (st_dpT T x y) u.1) (fun u t => st_I D A (w0 h ad k (st_dpT T x y) u) (ty0 k) t) A) 0 0 A := by
  refine st_start (by decide) (Nat.le_of_ble_eq_true rfl) (fun p e s m below meth c E hr hlk hw ls hl => ?_)
  have hx := E.1
  have hb := E.2.1
  have E : st_E p s m c cX0_dropField 5 _ RX0 D (ty0 k) := E
  have hl : lv_has ls 5 [(0, .ref h), (1, .int (x)), (2, .int (y))] := hl
  refine lv_iload_n hx hb dX0_dropField_0 rfl (lv_at hl 1 rfl) ?_
  refine st_callS (As := [.int (x)]) (rest := []) E hw (mX0_bad l D A (w0 h ad k T (kn, g, ak)) (ty0 k) x) (lw_S q67 q68 q16 q69) hdX0_bad rfl ⟨rfl, rfl⟩ ⟨Nat.le_of_ble_eq_true rfl, Nat.le_of_ble_eq_true rfl⟩ hl.1 rfl (Nat.le_of_ble_eq_true rfl) dX0_dropField_1 (fun r u H locs hp hw => ?_)
  subst hp
  have hw : st_W D A s.heap (w0 h ad k T (kn, g, ak)) H locs := hw
  refine st_ifeqp (tgt := 9) hx hb dX0_dropField_4 (by decide) (fun hc => ?_) (fun hc => ?_)
  · obtain ⟨a, h_a, rfl⟩ := st_ty_s hc
    refine lv_iload_n hx hb dX0_dropField_9 rfl (lv_at hl 2 rfl) ?_
    refine lv_if_lt (tgt := 18) hx hb dX0_dropField_10 (by decide) (fun hf => ?_) (fun hf => ?_)
    · have hb4 := st_lb_b (x := y) (Or.inl hf)
      refine lv_bipush (v := (-2)) hx hb dX0_dropField_18 (by decide) ?_
      have e : st_dpT T (nI a) y = T := by simp only [st_dpT, st_ty_n h_a, hb4]
      exact st_ri E hr hlk (kn, g, ak) (by show st_W D A s.heap (w0 h ad k (st_dpT T (nI a) y) (kn, g, ak)) _ _; rw [e]; exact hw) ⟨by simp only [st_dpR, st_ty_n h_a, hb4] <;> rfl, by rw [e]; exact hK⟩ dX0_dropField_20
    · refine lv_iload_n hx hb dX0_dropField_13 rfl (lv_at hl 2 rfl) ?_
      refine lv_iconst (v := nI 4) hx hb dX0_dropField_14 (by decide) ?_
      refine lv_icmp_lt (tgt := 21) hx hb dX0_dropField_15 (by decide) (fun hg => ?_) (fun hg => ?_)
      · obtain ⟨l1, h_l, rfl⟩ := st_lb_s hf (Int32.not_le.mpr hg)
        have h_s := hT.1 a
        refine lv_aload_n hx hb dX0_dropField_21 rfl (lv_at hl 0 rfl) ?_
        refine st_get0 E hw rfl 0 (by decide) q26 (v := .ref (ad 0)) rfl dX0_dropField_22 ?_
        refine lv_iload_n hx hb dX0_dropField_25 rfl (lv_at hl 1 rfl) ?_
        refine st_iald E hw 1 0 rfl rfl (i := a) (by omega) (by decide) (v := nI ((tS T) a)) rfl dX0_dropField_26 ?_
        refine lv_iconst (v := nI 5) hx hb dX0_dropField_27 (by decide) ?_
        refine st_iceq (tgt := 34) hx hb dX0_dropField_28 (by decide) (by omega) (by omega) (fun h5 => ?_) (fun h5 => ?_)
        · refine lv_iload_n hx hb dX0_dropField_34 rfl (lv_at hl 1 rfl) ?_
          refine lv_iconst (v := nI 4) hx hb dX0_dropField_35 (by decide) ?_
          refine st_imul hx hb dX0_dropField_36 ?_
          refine lv_iload_n hx hb dX0_dropField_37 rfl (lv_at hl 2 rfl) ?_
          refine st_iadd hx hb dX0_dropField_38 ?_
          refine lv_istore_n (lv' := [(3, .int (nI (a * 4 + l1))), (0, .ref h), (1, .int (nI a)), (2, .int (nI l1))]) hx hb dX0_dropField_39 rfl hl (by decide) rfl (fun ls hl => ?_)
          refine lv_aload_n hx hb dX0_dropField_40 rfl (lv_at hl 1 rfl) ?_
          refine st_get0 E hw rfl 3 (by decide) q29 (v := .ref (ad 3)) rfl dX0_dropField_41 ?_
          refine lv_iload_n hx hb dX0_dropField_44 rfl (lv_at hl 0 rfl) ?_
          refine st_iald E hw 4 0 rfl rfl (i := a * 4 + l1) (by omega) (by decide) (v := st_o ((tF T) (a * 4 + l1))) rfl dX0_dropField_45 ?_
          refine st_dialt (v := (st_had (tF T (a * 4 + l1)))) hx hb dX0_dropField_46 dX0_dropField_49 dX0_dropField_50 dX0_dropField_53 (st_had0 (fun z hz => by have := hT.2.2.2 _ _ hz; omega)) (st_had1) ?_
          refine lv_istore (lv' := [(4, .int ((st_had (tF T (a * 4 + l1))))), (3, .int (nI (a * 4 + l1))), (0, .ref h), (1, .int (nI a)), (2, .int (nI l1))]) hx hb dX0_dropField_54 hl (by decide) rfl (fun ls hl => ?_)
          refine lv_aload_n hx hb dX0_dropField_56 rfl (lv_at hl 2 rfl) ?_
          refine st_get0 E hw rfl 3 (by decide) q29 (v := .ref (ad 3)) rfl dX0_dropField_57 ?_
          refine lv_iload_n hx hb dX0_dropField_60 rfl (lv_at hl 1 rfl) ?_
          refine lv_iconst (v := st_o none) hx hb dX0_dropField_61 (by decide) ?_
          refine st_iast E hw 4 0 rfl rfl (i := a * 4 + l1) (by omega) (by decide) (fun j => st_o ((va_up (tF T) (a * 4 + l1) none) j)) (fun j => st_up st_o _ _ none j) dX0_dropField_62 (fun H locs (hw : st_W D A s.heap (w0 h ad k (tS T, tA T, tR T, va_up (tF T) (a * 4 + l1) none, tO T) (kn, g, ak)) H locs) => ?_)
          refine lv_aload_n hx hb dX0_dropField_63 rfl (lv_at hl 2 rfl) ?_
          refine st_get0 E hw rfl 4 (by decide) q30 (v := .ref (ad 4)) rfl dX0_dropField_64 ?_
          refine lv_iload_n hx hb dX0_dropField_67 rfl (lv_at hl 1 rfl) ?_
          refine lv_iconst (v := nI 0) hx hb dX0_dropField_68 (by decide) ?_
          refine st_zast E hw 5 1 rfl rfl (i := a * 4 + l1) (by omega) (by decide) (st_b false) (st_nb false) (fun j => st_b ((va_up (tO T) (a * 4 + l1) false) j)) (fun j => st_up st_b _ _ false j) dX0_dropField_69 (fun H locs (hw : st_W D A s.heap (w0 h ad k (tS T, tA T, tR T, va_up (tF T) (a * 4 + l1) none, va_up (tO T) (a * 4 + l1) false) (kn, g, ak)) H locs) => ?_)
          refine lv_aload_n hx hb dX0_dropField_70 rfl (lv_at hl 2 rfl) ?_
          refine st_callTv (As := []) (rest := []) E hw (mX0_forgetAll l D A h ad k (tS T, tA T, tR T, va_up (tF T) (a * 4 + l1) none, va_up (tO T) (a * 4 + l1) false) kn g ak) (lw_V q74 q76 qs1 q16 q77) hdX0_forgetAll rfl ⟨rfl, rfl⟩ ⟨Nat.le_of_ble_eq_true rfl, Nat.le_of_ble_eq_true rfl⟩ (ci := 0) rfl rfl rfl hl.1 rfl (Nat.le_of_ble_eq_true rfl) dX0_dropField_71 (fun u H locs hp hw => ?_)
          have hw : st_W D A s.heap (w0 h ad k (tS T, tA T, tR T, va_up (tF T) (a * 4 + l1) none, va_up (tO T) (a * 4 + l1) false) (fun _ => 0, g, ak)) H locs := hw
          refine lv_iload hx hb dX0_dropField_74 (lv_at hl 0 rfl) ?_
          have e : st_dpT T (nI a) (nI l1) = (tS T, tA T, tR T, va_up (tF T) (a * 4 + l1) none, va_up (tO T) (a * 4 + l1) false) := by simp only [st_dpT, st_ty_n h_a, st_lb_n h_l, if_pos h5, st_set]
          exact st_ri E hr hlk (fun _ => 0, g, ak) (by show st_W D A s.heap (w0 h ad k (st_dpT T (nI a) (nI l1)) (fun _ => 0, g, ak)) _ _; rw [e]; exact hw) ⟨by simp only [st_dpR, st_ty_n h_a, st_lb_n h_l, if_pos h5], st_KI_0⟩ dX0_dropField_76
        · refine lv_bipush (v := (-3)) hx hb dX0_dropField_31 (by decide) ?_
          have e : st_dpT T (nI a) (nI l1) = T := by simp only [st_dpT, st_ty_n h_a, st_lb_n h_l, if_neg h5]
          exact st_ri E hr hlk (kn, g, ak) (by show st_W D A s.heap (w0 h ad k (st_dpT T (nI a) (nI l1)) (kn, g, ak)) _ _; rw [e]; exact hw) ⟨by simp only [st_dpR, st_ty_n h_a, st_lb_n h_l, if_neg h5] <;> rfl, by rw [e]; exact hK⟩ dX0_dropField_33
      · have hb4 := st_lb_b (x := y) (Or.inr (Int32.not_lt.mp hg))
        refine lv_bipush (v := (-2)) hx hb dX0_dropField_18 (by decide) ?_
        have e : st_dpT T (nI a) y = T := by simp only [st_dpT, st_ty_n h_a, hb4]
        exact st_ri E hr hlk (kn, g, ak) (by show st_W D A s.heap (w0 h ad k (st_dpT T (nI a) y) (kn, g, ak)) _ _; rw [e]; exact hw) ⟨by simp only [st_dpR, st_ty_n h_a, hb4] <;> rfl, by rw [e]; exact hK⟩ dX0_dropField_20
  · refine lv_iconst (v := st_o none) hx hb dX0_dropField_7 (by decide) ?_
    have e : st_dpT T x y = T := by simp only [st_dpT, hc]
    exact st_ri E hr hlk (kn, g, ak) (by show st_W D A s.heap (w0 h ad k (st_dpT T x y) (kn, g, ak)) _ _; rw [e]; exact hw) ⟨by simp only [st_dpR, hc] <;> rfl, by rw [e]; exact hK⟩ dX0_dropField_8
end
section
/-! the model's plain law: striking out -/
def st_MI (T : TT) (u : S1) : Prop := u.1 = true → ∀ q, q < 256 → (u.2 q = true ↔ st_Sb T q)
theorem st_MI_0 {T : TT} {f : Nat → Bool} : st_MI T (false, f) := fun h => absurd (show false = true from h) (by decide)
theorem st_15 {x : Int32} (h : ¬ x ≤ nI 15) : 16 ≤ x := by
  rcases pk_ix x (n := 16) (by decide) with h1 | h1 | ⟨j, h1, e⟩
  · exact absurd (Int32.le_of_lt (Int32.lt_trans h1 (show (0 : Int32) < nI 15 by decide))) h
  · exact h1
  · exact absurd (by rw [e]; exact nI_le (by omega) (by decide)) h
theorem st_15' {x : Int32} (h : x ≤ nI 15) : ¬ 16 ≤ x := fun q => absurd (Int32.le_trans q h) (show ¬ ((16 : Int32) ≤ nI 15) by decide)
theorem st_3 {x : Int32} (h : ¬ x ≤ nI 3) : 4 ≤ x := by
  rcases pk_ix x (n := 4) (by decide) with h1 | h1 | ⟨j, h1, e⟩
  · exact absurd (Int32.le_of_lt (Int32.lt_trans h1 (show (0 : Int32) < nI 3 by decide))) h
  · exact h1
  · exact absurd (by rw [e]; exact nI_le (by omega) (by decide)) h
theorem st_3' {x : Int32} (h : x ≤ nI 3) : ¬ 4 ≤ x := fun q => absurd (Int32.le_trans q h) (show ¬ ((4 : Int32) ≤ nI 3) by decide)
def st_rfR (T : TT) (x y : Int32) : Int32 := match st_ty x with
  | none => -1
  | some a => match st_lb y with
    | none => -2
    | some _ => if tS T a = 5 then 0 else -3
theorem st_lb_s' {x : Int32} (h : ¬ st_lb x = none) : ∃ a, a < 4 ∧ x = nI a := by
  rcases pk_ix x (n := 4) (by decide) with h1 | h1 | h1
  · exact absurd (st_lb_b (Or.inl h1)) h
  · exact absurd (st_lb_b (Or.inr h1)) h
  · exact h1
theorem st_rf_c (T : TT) (x y : Int32) : (∃ a l, a < 16 ∧ l < 4 ∧ x = nI a ∧ y = nI l ∧ tS T a = 5 ∧ st_rfR T x y = 0) ∨ (st_rfR T x y < 0 ∧ (∀ z d, st_ty z = some d → st_fdR T x y z = st_rfR T x y ∧ ∀ v, st_fdT T x y z v = T) ∧ st_dpR T x y = st_rfR T x y ∧ st_dpT T x y = T) := by
  by_cases h1 : st_ty x = none
  · right
    refine ⟨?_, fun z d hz => ⟨?_, fun v => ?_⟩, ?_, ?_⟩
    · simp only [st_rfR, h1]; decide
    · simp only [st_rfR, st_fdR, h1]
    · simp only [st_fdT, h1]
    · simp only [st_rfR, st_dpR, h1]
    · simp only [st_dpT, h1]
  · obtain ⟨a, h_a, rfl⟩ := st_ty_s h1
    by_cases h2 : st_lb y = none
    · right
      refine ⟨?_, fun z d hz => ⟨?_, fun v => ?_⟩, ?_, ?_⟩
      · simp only [st_rfR, st_ty_n h_a, h2]; decide
      · simp only [st_rfR, st_fdR, st_ty_n h_a, hz, h2]
      · simp only [st_fdT, st_ty_n h_a, hz, h2]
      · simp only [st_rfR, st_dpR, st_ty_n h_a, h2]
      · simp only [st_dpT, st_ty_n h_a, h2]
    · obtain ⟨l, h_l, rfl⟩ := st_lb_s' h2
      by_cases h5 : tS T a = 5
      · left
        exact ⟨a, l, h_a, h_l, rfl, rfl, h5, by simp only [st_rfR, st_ty_n h_a, st_lb_n h_l, if_pos h5]⟩
      · right
        refine ⟨?_, fun z d hz => ⟨?_, fun v => ?_⟩, ?_, ?_⟩
        · simp only [st_rfR, st_ty_n h_a, st_lb_n h_l, if_neg h5]; decide
        · simp only [st_rfR, st_fdR, st_ty_n h_a, hz, st_lb_n h_l, if_neg h5]
        · simp only [st_fdT, st_ty_n h_a, hz, st_lb_n h_l, if_neg h5]
        · simp only [st_rfR, st_dpR, st_ty_n h_a, st_lb_n h_l, if_neg h5]
        · simp only [st_dpT, st_ty_n h_a, st_lb_n h_l, if_neg h5]
theorem st_suR_n {T : TT} {a b : Nat} (h_a : a < 16) (h_b : b < 16) : st_suR T (nI a) (nI b) = st_p (st_Sb T (a * 16 + b)) := by simp only [st_suR, st_ty_n h_a, st_ty_n h_b]
theorem st_eqR_n {T : TT} {a b : Nat} (h_a : a < 16) (h_b : b < 16) : st_eqR T (nI a) (nI b) = st_p (st_eq T a b) := by simp only [st_eqR, st_ty_n h_a, st_ty_n h_b]
theorem st_eq_c (T : TT) (x y : Int32) : (st_suR T x y = 0 ∧ st_eqR T x y = 0) ∨ (∃ a b, a < 16 ∧ b < 16 ∧ x = nI a ∧ y = nI b) := by
  by_cases h1 : st_ty x = none
  · left
    exact ⟨by simp only [st_suR, h1], by simp only [st_eqR, h1]⟩
  · obtain ⟨a, h_a, rfl⟩ := st_ty_s h1
    by_cases h2 : st_ty y = none
    · left
      exact ⟨by simp only [st_suR, st_ty_n h_a, h2], by simp only [st_eqR, st_ty_n h_a, h2]⟩
    · obtain ⟨b, h_b, rfl⟩ := st_ty_s h2
      exact Or.inr ⟨a, b, h_a, h_b, rfl, rfl⟩
theorem st_eq0 {T : TT} {x y : Int32} (h : st_suR T x y = 0) : st_eqR T x y = 0 := by
  rcases st_eq_c T x y with h1 | ⟨a, b, h_a, h_b, rfl, rfl⟩
  · exact h1.2
  · rw [st_suR_n h_a h_b] at h
    rw [st_eqR_n h_a h_b]
    exact st_p0 (fun q => absurd ((st_p1 q.1).symm.trans h) (by decide))
theorem st_eq1 {T : TT} {x y : Int32} (h : ¬ st_suR T x y = 0) : st_eqR T x y = st_suR T y x := by
  rcases st_eq_c T x y with h1 | ⟨a, b, h_a, h_b, rfl, rfl⟩
  · exact absurd h1.1 h
  · rw [st_suR_n h_a h_b] at h
    rw [st_eqR_n h_a h_b, st_suR_n h_b h_a]
    exact st_p_c ⟨fun q => q.2, fun q => ⟨Classical.byContradiction fun z => h (st_p0 z), q⟩⟩
theorem st_su01 (T : TT) (x y : Int32) : st_suR T x y = 0 ∨ st_suR T x y = 1 := by
  rcases st_eq_c T x y with h1 | ⟨a, b, h_a, h_b, rfl, rfl⟩
  · exact Or.inl h1.1
  · rw [st_suR_n h_a h_b]
    rcases Classical.em (st_Sb T (a * 16 + b)) with h | h
    · exact Or.inr (st_p1 h)
    · exact Or.inl (st_p0 h)
theorem st_suz (T : TT) (x y : Int32) : narrow .boolean (.int (st_suR T x y)) = .int (st_suR T x y) := by
  rcases st_su01 T x y with h | h <;> rw [h] <;> rfl
def st_I2 (T : TT) (n : Nat) (mo : Bool) (bl : Nat → Bool) : Prop := n ≤ 257 ∧ (∀ q, st_Sb T q → bl q = true) ∧ (mo = true → n + st_cnt bl 256 ≤ 256) ∧ (mo = false → ∀ q, q < 256 → bl q = true → st_rl T (fun x => bl x = true) (q / 16) (q % 16))
def st_I3 (T : TT) (bl1 : Nat → Bool) (i : Nat) (mo : Bool) (bl : Nat → Bool) : Prop := i ≤ 256 ∧ (∀ q, st_Sb T q → bl q = true) ∧ (mo = false → bl = bl1 ∧ ∀ q, q < i → bl1 q = true → st_rl T (fun x => bl1 x = true) (q / 16) (q % 16)) ∧ (mo = true → st_cnt bl 256 + 1 ≤ st_cnt bl1 256)
theorem st_I2_0 {T : TT} : st_I2 T 0 true (fun _ => true) := ⟨by decide, fun _ _ => rfl, fun _ => by have := st_cnt_le (fun _ => true) 256; omega, fun h => by cases h⟩
theorem st_I3_0 {T : TT} {n : Nat} {bl : Nat → Bool} (h : st_I2 T n true bl) : st_I3 T bl 0 false bl := ⟨by decide, h.2.1, fun _ => ⟨rfl, fun q hq => absurd hq (Nat.not_lt_zero q)⟩, fun h => by cases h⟩
theorem st_I3_k {T : TT} {bl1 bl : Nat → Bool} {i : Nat} {mo : Bool} (h : st_I3 T bl1 i mo bl) (hi : i < 256) (hr : bl i = true → st_rl T (fun x => bl x = true) (i / 16) (i % 16)) : st_I3 T bl1 (i + 1) mo bl := by
  obtain ⟨h1, h2, h3, h4⟩ := h
  refine ⟨hi, h2, fun hm => ?_, h4⟩
  obtain ⟨e, h5⟩ := h3 hm
  refine ⟨e, fun q hq hb => ?_⟩
  by_cases eq : q = i
  · rw [eq] at hb ⊢
    rw [e] at hr
    exact hr hb
  · exact h5 q (by omega) hb
theorem st_I3_x {T : TT} {bl1 bl : Nat → Bool} {i : Nat} {mo : Bool} (h : st_I3 T bl1 i mo bl) (hi : i < 256) (hb : bl i = true) (hr : ¬ st_rl T (fun x => bl x = true) (i / 16) (i % 16)) : st_I3 T bl1 (i + 1) true (va_up bl i false) := by
  obtain ⟨h1, h2, h3, h4⟩ := h
  refine ⟨hi, fun q hq => ?_, (fun hm => by cases hm), fun _ => ?_⟩
  · by_cases eq : q = i
    · rw [eq] at hq
      exact absurd (st_rl_mono h2 (st_Sb_rl hq)) hr
    · rw [st_un eq]; exact h2 q hq
  · have h5 := st_cnt_down hb 256 hi
    cases mo with
    | false => rw [(h3 rfl).1] at h5 ⊢; omega
    | true => have := h4 rfl; omega
theorem st_I2_s {T : TT} {bl1 bl : Nat → Bool} {n i : Nat} {mo : Bool} (h2 : st_I2 T n true bl1) (h3 : st_I3 T bl1 i mo bl) (hi : 256 ≤ i) (hn : n < 257) : st_I2 T (n + 1) mo bl := by
  obtain ⟨a1, a2, a3, a4⟩ := h3
  refine ⟨hn, a2, fun hm => ?_, fun hm q hq hb => ?_⟩
  · have := a4 hm
    have := h2.2.2.1 rfl
    omega
  · obtain ⟨e, h5⟩ := a3 hm
    rw [e] at hb ⊢
    exact h5 q (by omega) hb
theorem st_rl_lt {T : TT} {R : Nat → Prop} {s t : Nat} (hT : st_wf T) (h : st_rl T R s t) : st_rl T (fun x => x < 256 ∧ R x) s t := by
  rcases h with h1 | h1 | ⟨h1, h2, h3⟩
  · exact Or.inl h1
  · exact Or.inr (Or.inl h1)
  · refine Or.inr (Or.inr ⟨h1, fun h4 => ?_, fun h5 l hl y hy => ?_⟩)
    · have a1 := hT.2.1 s
      have a2 := hT.2.1 t
      have a3 := hT.2.2.1 s
      have a4 := hT.2.2.1 t
      exact ⟨⟨by omega, (h2 h4).1⟩, ⟨by omega, (h2 h4).2⟩⟩
    · obtain ⟨x, hx, ho, hR⟩ := h3 h5 l hl y hy
      have a1 := hT.2.2.2 _ _ hx
      have a2 := hT.2.2.2 _ _ hy
      exact ⟨x, hx, ho, by omega, hR⟩
theorem st_I2_e {T : TT} {bl : Nat → Bool} {n : Nat} {mo : Bool} (hT : st_wf T) (h : st_I2 T n mo bl) (he : 257 ≤ n ∨ mo = false) : ∀ q, q < 256 → (bl q = true ↔ st_Sb T q) := by
  obtain ⟨h1, h2, h3, h4⟩ := h
  have hm : mo = false := by
    rcases he with he | he
    · cases mo with
      | false => rfl
      | true => have := h3 rfl; omega
    · exact he
  intro q hq
  refine ⟨fun hb => ⟨fun x => x < 256 ∧ bl x = true, ⟨hq, hb⟩, fun x hx => ⟨hx.1, ?_⟩⟩, h2 q⟩
  exact st_rl_lt hT (h4 hm x hx.1 hx.2)
end
section
/-! StructuralTypesModel: the changes -/
set_option maxHeartbeats 4000000 in
set_option maxRecDepth 100000 in
/-- bad(x) -/
theorem mX1_bad (l : Launch) (D : va_G) (A : Nat → Prop) (h : Nat) (ad : Nat → Nat) (k : Nat → ClassId) (T : TT) (kb : Bool) (bl : Nat → Bool) (x : Int32) : Met l yX1_bad (ws_ yX1_bad cX1_bad 2 (some .boolean)) ({ frames := 0, cells := 0, slots := 0, locals := 0 }) (va_Pc [.ref h, .int (x)] (st_I D A (w1 h ad k T (kb, bl)) (ty1 k))) (va_Qi (fun (r : Int32) (u : Unit) => r = st_p (st_ty x = none)) (fun u t => st_I D A (w1 h ad k T (kb, bl)) (ty1 k) t) A) 0 0 A := by
  refine st_start (by decide) (Nat.le_of_ble_eq_true rfl) (fun p e s m below meth c E hr hlk hw ls hl => ?_)
  have hx := E.1
  have hb := E.2.1
  have E : st_E p s m c cX1_bad 2 _ RX1 D (ty1 k) := E
  have hl : lv_has ls 2 [(0, .ref h), (1, .int (x))] := hl
  refine lv_iload_n hx hb dX1_bad_0 rfl (lv_at hl 1 rfl) ?_
  refine lv_if_lt (tgt := 10) hx hb dX1_bad_1 (by decide) (fun hc => ?_) (fun hc => ?_)
  · refine lv_iconst (v := nI 1) hx hb dX1_bad_10 (by decide) ?_
    refine lv_goto (tgt := 15) hx hb dX1_bad_11 (by decide) ?_
    exact st_rz E hr hlk () hw rfl (st_p1 (st_ty_b (Or.inl hc))).symm dX1_bad_15
  · refine lv_iload_n hx hb dX1_bad_4 rfl (lv_at hl 1 rfl) ?_
    refine lv_bipush (v := nI 15) hx hb dX1_bad_5 (by decide) ?_
    refine lv_icmp_le (tgt := 14) hx hb dX1_bad_7 (by decide) (fun hd => ?_) (fun hd => ?_)
    · refine lv_iconst (v := nI 0) hx hb dX1_bad_14 (by decide) ?_
      exact st_rz E hr hlk () hw rfl (st_p0 (st_ty_g hc (st_15' hd))).symm dX1_bad_15
    · refine lv_iconst (v := nI 1) hx hb dX1_bad_10 (by decide) ?_
      refine lv_goto (tgt := 15) hx hb dX1_bad_11 (by decide) ?_
      exact st_rz E hr hlk () hw rfl (st_p1 (st_ty_b (Or.inr (st_15 hd)))).symm dX1_bad_15
set_option maxHeartbeats 4000000 in
set_option maxRecDepth 100000 in
/-- shape(x, y) -/
theorem mX1_shape (l : Launch) (D : va_G) (A : Nat → Prop) (h : Nat) (ad : Nat → Nat) (k : Nat → ClassId) (T : TT) (kb : Bool) (bl : Nat → Bool) (x y : Int32) (hM : st_MI T (kb, bl)) : Met l yX1_shape (ws_ yX1_shape cX1_shape 5 (some .int)) ({ frames := 1, cells := 0, slots := 0, locals := 21 }) (va_Pc [.ref h, .int (x), .int (y)] (st_I D A (w1 h ad k T (kb, bl)) (ty1 k))) (va_Qi (fun (r : Int32) (u : S1) => r = st_shR T x y ∧ st_MI (st_shT1 T x y) u) (fun u t => st_I D A (w1 h ad k (st_shT1 T x y) u) (ty1 k) t) A) 0 0 A := by
  refine st_start (by decide) (Nat.le_of_ble_eq_true rfl) (fun p e s m below meth c E hr hlk hw ls hl => ?_)
  have hx := E.1
  have hb := E.2.1
  have E : st_E p s m c cX1_shape 5 _ RX1 D (ty1 k) := E
  have hl : lv_has ls 5 [(0, .ref h), (1, .int (x)), (2, .int (y))] := hl
  refine lv_aload_n hx hb dX1_shape_0 rfl (lv_at hl 0 rfl) ?_
  refine lv_iload_n hx hb dX1_shape_1 rfl (lv_at hl 1 rfl) ?_
  refine st_callT (As := [.int (x)]) (rest := []) E hw (mX1_bad l D A h ad k T kb bl x) (lw_V q174 q176 qs9 q17 q177) hdX1_bad rfl ⟨rfl, rfl⟩ ⟨Nat.le_of_ble_eq_true rfl, Nat.le_of_ble_eq_true rfl⟩ (ci := 1) rfl rfl rfl hl.1 rfl (Nat.le_of_ble_eq_true rfl) dX1_shape_2 (fun r u H locs hp hw => ?_)
  subst hp
  have hw : st_W D A s.heap (w1 h ad k T (kb, bl)) H locs := hw
  refine st_ifeqp (tgt := 10) hx hb dX1_shape_5 (by decide) (fun hc => ?_) (fun hc => ?_)
  · obtain ⟨a, h_a, rfl⟩ := st_ty_s hc
    refine lv_iload_n hx hb dX1_shape_10 rfl (lv_at hl 2 rfl) ?_
    refine lv_if_lt (tgt := 24) hx hb dX1_shape_11 (by decide) (fun hd => ?_) (fun hd => ?_)
    · have hb4 := st_sc_b (x := y) (Or.inl hd)
      refine lv_bipush (v := (-4)) hx hb dX1_shape_24 (by decide) ?_
      have e : st_shT1 T (nI a) y = T := by simp only [st_shT1, st_ty_n h_a, hb4]
      exact st_ri E hr hlk (kb, bl) (by show st_W D A s.heap (w1 h ad k (st_shT1 T (nI a) y) (kb, bl)) _ _; rw [e]; exact hw) ⟨by simp only [st_shR, st_ty_n h_a, hb4] <;> rfl, by rw [e]; exact hM⟩ dX1_shape_26
    · refine lv_iload_n hx hb dX1_shape_14 rfl (lv_at hl 2 rfl) ?_
      refine lv_iconst (v := nI 5) hx hb dX1_shape_15 (by decide) ?_
      refine lv_icmp_gt (tgt := 24) hx hb dX1_shape_16 (by decide) (fun he => ?_) (fun he => ?_)
      · have hb4 := st_sc_b (x := y) (Or.inr (Or.inl he))
        refine lv_bipush (v := (-4)) hx hb dX1_shape_24 (by decide) ?_
        have e : st_shT1 T (nI a) y = T := by simp only [st_shT1, st_ty_n h_a, hb4]
        exact st_ri E hr hlk (kb, bl) (by show st_W D A s.heap (w1 h ad k (st_shT1 T (nI a) y) (kb, bl)) _ _; rw [e]; exact hw) ⟨by simp only [st_shR, st_ty_n h_a, hb4] <;> rfl, by rw [e]; exact hM⟩ dX1_shape_26
      · refine lv_iload_n hx hb dX1_shape_19 rfl (lv_at hl 2 rfl) ?_
        refine lv_iconst (v := nI 4) hx hb dX1_shape_20 (by decide) ?_
        refine lv_icmp_ne (tgt := 27) hx hb dX1_shape_21 (by decide) (fun hf => ?_) (fun hf => ?_)
        · obtain ⟨b, h_b, h_4, rfl⟩ := st_sc_s hd he hf
          refine lv_aload_n hx hb dX1_shape_27 rfl (lv_at hl 0 rfl) ?_
          refine st_get1 E hw rfl 0 (by decide) q148 (v := .ref (ad 0)) rfl dX1_shape_28 ?_
          refine lv_iload_n hx hb dX1_shape_31 rfl (lv_at hl 1 rfl) ?_
          refine st_iald E hw 1 0 rfl rfl (i := a) (by omega) (by decide) (v := nI ((tS T) a)) rfl dX1_shape_32 ?_
          refine lv_istore_n (lv' := [(3, .int (nI ((tS T) a))), (0, .ref h), (1, .int (nI a)), (2, .int (nI b))]) hx hb dX1_shape_33 rfl hl (by decide) rfl (fun ls hl => ?_)
          refine lv_aload_n hx hb dX1_shape_34 rfl (lv_at hl 1 rfl) ?_
          refine st_get1 E hw rfl 0 (by decide) q148 (v := .ref (ad 0)) rfl dX1_shape_35 ?_
          refine lv_iload_n hx hb dX1_shape_38 rfl (lv_at hl 2 rfl) ?_
          refine lv_iload_n hx hb dX1_shape_39 rfl (lv_at hl 3 rfl) ?_
          refine st_iast E hw 1 0 rfl rfl (i := a) (by omega) (by decide) (fun j => nI ((va_up (tS T) a b) j)) (fun j => st_up nI _ _ b j) dX1_shape_40 (fun H locs (hw : st_W D A s.heap (w1 h ad k (va_up (tS T) a b, tA T, tR T, tF T, tO T) (kb, bl)) H locs) => ?_)
          refine lv_iconst (v := nI 0) hx hb dX1_shape_41 (by decide) ?_
          refine lv_istore (lv' := [(4, .int (nI 0)), (3, .int (nI ((tS T) a))), (0, .ref h), (1, .int (nI a)), (2, .int (nI b))]) hx hb dX1_shape_42 hl (by decide) rfl (fun ls hl => ?_)
          have hw : st_W D A s.heap (w1 h ad k (va_up (tS T) a b, tA T, tR T, st_cl none (tF T) a 0, tO T) (kb, bl)) H locs := by rw [st_cl_0]; exact hw
          refine st_loop (σ := Nat) (fun x H locs ls => st_W D A s.heap (w1 h ad k (va_up (tS T) a b, tA T, tR T, st_cl none (tF T) a x, tO T) (kb, bl)) H locs ∧ lv_has ls 5 [(0, .ref h), (1, .int (nI a)), (2, .int (nI b)), (3, .int (nI (tS T a))), (4, .int (nI x))] ∧ x ≤ 4) (fun x => 5 - x) (fun i H locs ls hJ ih => ?_) 0 ⟨hw, lv_sub hl [2, 3, 4, 1, 0] rfl, by omega⟩
          have hw : st_W D A s.heap (w1 h ad k (va_up (tS T) a b, tA T, tR T, st_cl none (tF T) a i, tO T) (kb, bl)) H locs := hJ.1
          have hl : lv_has ls 5 [(0, .ref h), (1, .int (nI a)), (2, .int (nI b)), (3, .int (nI (tS T a))), (4, .int (nI i))] := hJ.2.1
          have hI : i ≤ 4 := hJ.2.2
          clear hJ
          refine lv_iload hx hb dX1_shape_44 (lv_at hl 4 rfl) ?_
          refine lv_iconst (v := nI 4) hx hb dX1_shape_46 (by decide) ?_
          refine st_icge (tgt := 68) hx hb dX1_shape_47 (by decide) (by omega) (by omega) (fun hg => ?_) (fun hg => ?_)
          · obtain rfl : i = 4 := by omega
            refine lv_aload_n hx hb dX1_shape_68 rfl (lv_at hl 0 rfl) ?_
            refine lv_iconst (v := nI 0) hx hb dX1_shape_69 (by decide) ?_
            refine st_put1 E hw rfl 5 (by decide) q153 rfl .boolean (by decide +kernel) rfl rfl (Nat.le_of_ble_eq_true rfl) dX1_shape_70 (fun H locs (hw : st_W D A s.heap (w1 h ad k (va_up (tS T) a b, tA T, tR T, st_cl none (tF T) a 4, tO T) (false, bl)) H locs) => ?_)
            refine lv_iload_n hx hb dX1_shape_73 rfl (lv_at hl 3 rfl) ?_
            have e : st_shT1 T (nI a) (nI b) = (va_up (tS T) a b, tA T, tR T, st_cl none (tF T) a 4, tO T) := by simp only [st_shT1, st_ty_n h_a, st_sc_n h_b h_4]
            exact st_ri E hr hlk (false, bl) (by show st_W D A s.heap (w1 h ad k (st_shT1 T (nI a) (nI b)) (false, bl)) _ _; rw [e]; exact hw) ⟨by simp only [st_shR, st_ty_n h_a, st_sc_n h_b h_4], st_MI_0⟩ dX1_shape_74
          · refine lv_aload_n hx hb dX1_shape_50 rfl (lv_at hl 0 rfl) ?_
            refine st_get1 E hw rfl 3 (by decide) q151 (v := .ref (ad 3)) rfl dX1_shape_51 ?_
            refine lv_iload_n hx hb dX1_shape_54 rfl (lv_at hl 1 rfl) ?_
            refine lv_iconst (v := nI 4) hx hb dX1_shape_55 (by decide) ?_
            refine st_imul hx hb dX1_shape_56 ?_
            refine lv_iload hx hb dX1_shape_57 (lv_at hl 4 rfl) ?_
            refine st_iadd hx hb dX1_shape_59 ?_
            refine lv_iconst (v := st_o none) hx hb dX1_shape_60 (by decide) ?_
            refine st_iast E hw 4 0 rfl rfl (i := a * 4 + i) (by omega) (by decide) (fun j => st_o ((st_cl none (tF T) a (i + 1)) j)) (fun j => st_cl_s st_o j) dX1_shape_61 (fun H locs (hw : st_W D A s.heap (w1 h ad k (va_up (tS T) a b, tA T, tR T, st_cl none (tF T) a (i + 1), tO T) (kb, bl)) H locs) => ?_)
            refine lv_iinc (v := nI (i + 1)) (lv' := [(4, .int (nI (i + 1))), (0, .ref h), (1, .int (nI a)), (2, .int (nI b)), (3, .int (nI (tS T a)))]) hx hb dX1_shape_62 hl (k := 4) rfl (st_inc _) (by decide) rfl (fun ls hl => ?_)
            refine lv_goto (tgt := 44) hx hb dX1_shape_65 (by decide) ?_
            exact ih (i + 1) _ _ _ ⟨hw, lv_sub hl [1, 2, 3, 4, 0] rfl, by omega⟩ (by show 5 - (i + 1) < 5 - i; omega)
        · have hb4 := st_sc_b (x := y) (Or.inr (Or.inr hf))
          refine lv_bipush (v := (-4)) hx hb dX1_shape_24 (by decide) ?_
          have e : st_shT1 T (nI a) y = T := by simp only [st_shT1, st_ty_n h_a, hb4]
          exact st_ri E hr hlk (kb, bl) (by show st_W D A s.heap (w1 h ad k (st_shT1 T (nI a) y) (kb, bl)) _ _; rw [e]; exact hw) ⟨by simp only [st_shR, st_ty_n h_a, hb4] <;> rfl, by rw [e]; exact hM⟩ dX1_shape_26
  · refine lv_iconst (v := st_o none) hx hb dX1_shape_8 (by decide) ?_
    have e : st_shT1 T x y = T := by simp only [st_shT1, hc]
    exact st_ri E hr hlk (kb, bl) (by show st_W D A s.heap (w1 h ad k (st_shT1 T x y) (kb, bl)) _ _; rw [e]; exact hw) ⟨by simp only [st_shR, hc] <;> rfl, by rw [e]; exact hM⟩ dX1_shape_9
set_option maxHeartbeats 4000000 in
set_option maxRecDepth 100000 in
/-- fun(x, y, z) -/
theorem mX1_fun (l : Launch) (D : va_G) (A : Nat → Prop) (h : Nat) (ad : Nat → Nat) (k : Nat → ClassId) (T : TT) (kb : Bool) (bl : Nat → Bool) (x y z : Int32) (hM : st_MI T (kb, bl)) : Met l yX1_fun (ws_ yX1_fun cX1_fun 5 (some .int)) ({ frames := 1, cells := 0, slots := 0, locals := 21 }) (va_Pc [.ref h, .int (x), .int (y), .int (z)] (st_I D A (w1 h ad k T (kb, bl)) (ty1 k))) (va_Qi (fun (r : Int32) (u : S1) => r = st_fnR T x y z ∧ st_MI (st_fnT1 T x y z) u) (fun u t => st_I D A (w1 h ad k (st_fnT1 T x y z) u) (ty1 k) t) A) 0 0 A := by
  refine st_start (by decide) (Nat.le_of_ble_eq_true rfl) (fun p e s m below meth c E hr hlk hw ls hl => ?_)
  have hx := E.1
  have hb := E.2.1
  have E : st_E p s m c cX1_fun 5 _ RX1 D (ty1 k) := E
  have hl : lv_has ls 5 [(0, .ref h), (1, .int (x)), (2, .int (y)), (3, .int (z))] := hl
  refine lv_aload_n hx hb dX1_fun_0 rfl (lv_at hl 0 rfl) ?_
  refine lv_iload_n hx hb dX1_fun_1 rfl (lv_at hl 1 rfl) ?_
  refine st_callT (As := [.int (x)]) (rest := []) E hw (mX1_bad l D A h ad k T kb bl x) (lw_V q174 q176 qs9 q17 q177) hdX1_bad rfl ⟨rfl, rfl⟩ ⟨Nat.le_of_ble_eq_true rfl, Nat.le_of_ble_eq_true rfl⟩ (ci := 1) rfl rfl rfl hl.1 rfl (Nat.le_of_ble_eq_true rfl) dX1_fun_2 (fun r u H locs hp hw => ?_)
  subst hp
  have hw : st_W D A s.heap (w1 h ad k T (kb, bl)) H locs := hw
  refine st_ifnep (tgt := 24) hx hb dX1_fun_5 (by decide) (fun hc => ?_) (fun hc => ?_)
  · refine lv_iconst (v := st_o none) hx hb dX1_fun_24 (by decide) ?_
    have e : st_fnT1 T x y z = T := by simp only [st_fnT1, hc]
    exact st_ri E hr hlk (kb, bl) (by show st_W D A s.heap (w1 h ad k (st_fnT1 T x y z) (kb, bl)) _ _; rw [e]; exact hw) ⟨by simp only [st_fnR, hc] <;> rfl, by rw [e]; exact hM⟩ dX1_fun_25
  · obtain ⟨a, h_a, rfl⟩ := st_ty_s hc
    refine lv_aload_n hx hb dX1_fun_8 rfl (lv_at hl 0 rfl) ?_
    refine lv_iload_n hx hb dX1_fun_9 rfl (lv_at hl 2 rfl) ?_
    refine st_callT (As := [.int (y)]) (rest := []) E hw (mX1_bad l D A h ad k T kb bl y) (lw_V q174 q176 qs9 q17 q177) hdX1_bad rfl ⟨rfl, rfl⟩ ⟨Nat.le_of_ble_eq_true rfl, Nat.le_of_ble_eq_true rfl⟩ (ci := 1) rfl rfl rfl hl.1 rfl (Nat.le_of_ble_eq_true rfl) dX1_fun_10 (fun r u H locs hp hw => ?_)
    subst hp
    have hw : st_W D A s.heap (w1 h ad k T (kb, bl)) H locs := hw
    refine st_ifnep (tgt := 24) hx hb dX1_fun_13 (by decide) (fun hd => ?_) (fun hd => ?_)
    · refine lv_iconst (v := st_o none) hx hb dX1_fun_24 (by decide) ?_
      have e : st_fnT1 T (nI a) y z = T := by simp only [st_fnT1, st_ty_n h_a, hd]
      exact st_ri E hr hlk (kb, bl) (by show st_W D A s.heap (w1 h ad k (st_fnT1 T (nI a) y z) (kb, bl)) _ _; rw [e]; exact hw) ⟨by simp only [st_fnR, st_ty_n h_a, hd] <;> rfl, by rw [e]; exact hM⟩ dX1_fun_25
    · obtain ⟨b, h_b, rfl⟩ := st_ty_s hd
      refine lv_aload_n hx hb dX1_fun_16 rfl (lv_at hl 0 rfl) ?_
      refine lv_iload_n hx hb dX1_fun_17 rfl (lv_at hl 3 rfl) ?_
      refine st_callT (As := [.int (z)]) (rest := []) E hw (mX1_bad l D A h ad k T kb bl z) (lw_V q174 q176 qs9 q17 q177) hdX1_bad rfl ⟨rfl, rfl⟩ ⟨Nat.le_of_ble_eq_true rfl, Nat.le_of_ble_eq_true rfl⟩ (ci := 1) rfl rfl rfl hl.1 rfl (Nat.le_of_ble_eq_true rfl) dX1_fun_18 (fun r u H locs hp hw => ?_)
      subst hp
      have hw : st_W D A s.heap (w1 h ad k T (kb, bl)) H locs := hw
      refine st_ifeqp (tgt := 26) hx hb dX1_fun_21 (by decide) (fun he => ?_) (fun he => ?_)
      · obtain ⟨d, h_d, rfl⟩ := st_ty_s he
        refine lv_aload_n hx hb dX1_fun_26 rfl (lv_at hl 0 rfl) ?_
        refine st_get1 E hw rfl 0 (by decide) q148 (v := .ref (ad 0)) rfl dX1_fun_27 ?_
        refine lv_iload_n hx hb dX1_fun_30 rfl (lv_at hl 1 rfl) ?_
        refine st_iald E hw 1 0 rfl rfl (i := a) (by omega) (by decide) (v := nI ((tS T) a)) rfl dX1_fun_31 ?_
        refine lv_istore (lv' := [(4, .int (nI ((tS T) a))), (0, .ref h), (1, .int (nI a)), (2, .int (nI b)), (3, .int (nI d))]) hx hb dX1_fun_32 hl (by decide) rfl (fun ls hl => ?_)
        refine lv_aload_n hx hb dX1_fun_34 rfl (lv_at hl 1 rfl) ?_
        refine st_get1 E hw rfl 0 (by decide) q148 (v := .ref (ad 0)) rfl dX1_fun_35 ?_
        refine lv_iload_n hx hb dX1_fun_38 rfl (lv_at hl 2 rfl) ?_
        refine lv_iconst (v := nI 4) hx hb dX1_fun_39 (by decide) ?_
        refine st_iast E hw 1 0 rfl rfl (i := a) (by omega) (by decide) (fun j => nI ((va_up (tS T) a 4) j)) (fun j => st_up nI _ _ 4 j) dX1_fun_40 (fun H locs (hw : st_W D A s.heap (w1 h ad k (va_up (tS T) a 4, tA T, tR T, tF T, tO T) (kb, bl)) H locs) => ?_)
        refine lv_aload_n hx hb dX1_fun_41 rfl (lv_at hl 1 rfl) ?_
        refine st_get1 E hw rfl 1 (by decide) q149 (v := .ref (ad 1)) rfl dX1_fun_42 ?_
        refine lv_iload_n hx hb dX1_fun_45 rfl (lv_at hl 2 rfl) ?_
        refine lv_iload_n hx hb dX1_fun_46 rfl (lv_at hl 3 rfl) ?_
        refine st_iast E hw 2 0 rfl rfl (i := a) (by omega) (by decide) (fun j => nI ((va_up (tA T) a b) j)) (fun j => st_up nI _ _ b j) dX1_fun_47 (fun H locs (hw : st_W D A s.heap (w1 h ad k (va_up (tS T) a 4, va_up (tA T) a b, tR T, tF T, tO T) (kb, bl)) H locs) => ?_)
        refine lv_aload_n hx hb dX1_fun_48 rfl (lv_at hl 1 rfl) ?_
        refine st_get1 E hw rfl 2 (by decide) q150 (v := .ref (ad 2)) rfl dX1_fun_49 ?_
        refine lv_iload_n hx hb dX1_fun_52 rfl (lv_at hl 2 rfl) ?_
        refine lv_iload_n hx hb dX1_fun_53 rfl (lv_at hl 4 rfl) ?_
        refine st_iast E hw 3 0 rfl rfl (i := a) (by omega) (by decide) (fun j => nI ((va_up (tR T) a d) j)) (fun j => st_up nI _ _ d j) dX1_fun_54 (fun H locs (hw : st_W D A s.heap (w1 h ad k (va_up (tS T) a 4, va_up (tA T) a b, va_up (tR T) a d, tF T, tO T) (kb, bl)) H locs) => ?_)
        refine lv_aload_n hx hb dX1_fun_55 rfl (lv_at hl 1 rfl) ?_
        refine lv_iconst (v := nI 0) hx hb dX1_fun_56 (by decide) ?_
        refine st_put1 E hw rfl 5 (by decide) q153 rfl .boolean (by decide +kernel) rfl rfl (Nat.le_of_ble_eq_true rfl) dX1_fun_57 (fun H locs (hw : st_W D A s.heap (w1 h ad k (va_up (tS T) a 4, va_up (tA T) a b, va_up (tR T) a d, tF T, tO T) (false, bl)) H locs) => ?_)
        refine lv_iload hx hb dX1_fun_60 (lv_at hl 0 rfl) ?_
        have e : st_fnT1 T (nI a) (nI b) (nI d) = (va_up (tS T) a 4, va_up (tA T) a b, va_up (tR T) a d, tF T, tO T) := by simp only [st_fnT1, st_ty_n h_a, st_ty_n h_b, st_ty_n h_d]
        exact st_ri E hr hlk (false, bl) (by show st_W D A s.heap (w1 h ad k (st_fnT1 T (nI a) (nI b) (nI d)) (false, bl)) _ _; rw [e]; exact hw) ⟨by simp only [st_fnR, st_ty_n h_a, st_ty_n h_b, st_ty_n h_d], st_MI_0⟩ dX1_fun_62
      · refine lv_iconst (v := st_o none) hx hb dX1_fun_24 (by decide) ?_
        have e : st_fnT1 T (nI a) (nI b) z = T := by simp only [st_fnT1, st_ty_n h_a, st_ty_n h_b, he]
        exact st_ri E hr hlk (kb, bl) (by show st_W D A s.heap (w1 h ad k (st_fnT1 T (nI a) (nI b) z) (kb, bl)) _ _; rw [e]; exact hw) ⟨by simp only [st_fnR, st_ty_n h_a, st_ty_n h_b, he] <;> rfl, by rw [e]; exact hM⟩ dX1_fun_25
set_option maxHeartbeats 4000000 in
set_option maxRecDepth 100000 in
/-- refusal(x, y) -/
theorem mX1_refusal (l : Launch) (D : va_G) (A : Nat → Prop) (h : Nat) (ad : Nat → Nat) (k : Nat → ClassId) (T : TT) (kb : Bool) (bl : Nat → Bool) (x y : Int32) (hT : st_wf T) : Met l yX1_refusal (ws_ yX1_refusal cX1_refusal 3 (some .int)) ({ frames := 1, cells := 0, slots := 0, locals := 21 }) (va_Pc [.ref h, .int (x), .int (y)] (st_I D A (w1 h ad k T (kb, bl)) (ty1 k))) (va_Qi (fun (r : Int32) (u : Unit) => r = st_rfR T x y) (fun u t => st_I D A (w1 h ad k T (kb, bl)) (ty1 k) t) A) 0 0 A := by
  refine st_start (by decide) (Nat.le_of_ble_eq_true rfl) (fun p e s m below meth c E hr hlk hw ls hl => ?_)
  have hx := E.1
  have hb := E.2.1
  have E : st_E p s m c cX1_refusal 3 _ RX1 D (ty1 k) := E
  have hl : lv_has ls 3 [(0, .ref h), (1, .int (x)), (2, .int (y))] := hl
  refine lv_aload_n hx hb dX1_refusal_0 rfl (lv_at hl 0 rfl) ?_
  refine lv_iload_n hx hb dX1_refusal_1 rfl (lv_at hl 1 rfl) ?_
  refine st_callT (As := [.int (x)]) (rest := []) E hw (mX1_bad l D A h ad k T kb bl x) (lw_V q174 q176 qs9 q17 q177) hdX1_bad rfl ⟨rfl, rfl⟩ ⟨Nat.le_of_ble_eq_true rfl, Nat.le_of_ble_eq_true rfl⟩ (ci := 1) rfl rfl rfl hl.1 rfl (Nat.le_of_ble_eq_true rfl) dX1_refusal_2 (fun r u H locs hp hw => ?_)
  subst hp
  have hw : st_W D A s.heap (w1 h ad k T (kb, bl)) H locs := hw
  refine st_ifeqp (tgt := 10) hx hb dX1_refusal_5 (by decide) (fun hc => ?_) (fun hc => ?_)
  · obtain ⟨a, h_a, rfl⟩ := st_ty_s hc
    have h_s := hT.1 a
    refine lv_iload_n hx hb dX1_refusal_10 rfl (lv_at hl 2 rfl) ?_
    refine lv_if_lt (tgt := 19) hx hb dX1_refusal_11 (by decide) (fun hd => ?_) (fun hd => ?_)
    · have hb4 := st_lb_b (x := y) (Or.inl hd)
      refine lv_bipush (v := (-2)) hx hb dX1_refusal_19 (by decide) ?_
      exact st_ri E hr hlk () hw (by simp only [st_rfR, st_ty_n h_a, hb4] <;> rfl) dX1_refusal_21
    · refine lv_iload_n hx hb dX1_refusal_14 rfl (lv_at hl 2 rfl) ?_
      refine lv_iconst (v := nI 3) hx hb dX1_refusal_15 (by decide) ?_
      refine lv_icmp_le (tgt := 22) hx hb dX1_refusal_16 (by decide) (fun he => ?_) (fun he => ?_)
      · obtain ⟨l1, h_l, rfl⟩ := st_lb_s hd (st_3' he)
        refine lv_aload_n hx hb dX1_refusal_22 rfl (lv_at hl 0 rfl) ?_
        refine st_get1 E hw rfl 0 (by decide) q148 (v := .ref (ad 0)) rfl dX1_refusal_23 ?_
        refine lv_iload_n hx hb dX1_refusal_26 rfl (lv_at hl 1 rfl) ?_
        refine st_iald E hw 1 0 rfl rfl (i := a) (by omega) (by decide) (v := nI ((tS T) a)) rfl dX1_refusal_27 ?_
        refine lv_iconst (v := nI 5) hx hb dX1_refusal_28 (by decide) ?_
        refine st_icne (tgt := 36) hx hb dX1_refusal_29 (by decide) (by omega) (by omega) (fun h5 => ?_) (fun h5 => ?_)
        · refine lv_bipush (v := (-3)) hx hb dX1_refusal_36 (by decide) ?_
          exact st_ri E hr hlk () hw (by simp only [st_rfR, st_ty_n h_a, st_lb_n h_l, if_neg h5] <;> rfl) dX1_refusal_38
        · refine lv_iconst (v := nI 0) hx hb dX1_refusal_32 (by decide) ?_
          refine lv_goto (tgt := 38) hx hb dX1_refusal_33 (by decide) ?_
          exact st_ri E hr hlk () hw (by simp only [st_rfR, st_ty_n h_a, st_lb_n h_l, if_pos h5] <;> rfl) dX1_refusal_38
      · have hb4 := st_lb_b (x := y) (Or.inr (st_3 he))
        refine lv_bipush (v := (-2)) hx hb dX1_refusal_19 (by decide) ?_
        exact st_ri E hr hlk () hw (by simp only [st_rfR, st_ty_n h_a, hb4] <;> rfl) dX1_refusal_21
  · refine lv_iconst (v := st_o none) hx hb dX1_refusal_8 (by decide) ?_
    exact st_ri E hr hlk () hw (by simp only [st_rfR, hc] <;> rfl) dX1_refusal_9
set_option maxHeartbeats 4000000 in
set_option maxRecDepth 100000 in
/-- setField(n, o, b) -/
theorem mX1_setField (l : Launch) (D : va_G) (A : Nat → Prop) (h : Nat) (ad : Nat → Nat) (k : Nat → ClassId) (T : TT) (kb : Bool) (bl : Nat → Bool) (n : Nat) (o : Option Nat) (b : Bool) (h_n : n < 64) (hT : st_wf T) : Met l yX1_setField (ws_ yX1_setField cX1_setField 5 (some .int)) ({ frames := 0, cells := 0, slots := 0, locals := 0 }) (va_Pc [.ref h, .int (nI n), .int (st_o o), .int (st_b b)] (st_I D A (w1 h ad k T (kb, bl)) (ty1 k))) (va_Qi (fun (r : Int32) (u : Unit) => r = st_had (tF T n)) (fun u t => st_I D A (w1 h ad k (st_set T n o b) (false, bl)) (ty1 k) t) A) 0 0 A := by
  refine st_start (by decide) (Nat.le_of_ble_eq_true rfl) (fun p e s m below meth c E hr hlk hw ls hl => ?_)
  have hx := E.1
  have hb := E.2.1
  have E : st_E p s m c cX1_setField 5 _ RX1 D (ty1 k) := E
  have hl : lv_has ls 5 [(0, .ref h), (1, .int (nI n)), (2, .int (st_o o)), (3, .int (st_b b))] := hl
  refine lv_aload_n hx hb dX1_setField_0 rfl (lv_at hl 0 rfl) ?_
  refine st_get1 E hw rfl 3 (by decide) q151 (v := .ref (ad 3)) rfl dX1_setField_1 ?_
  refine lv_iload_n hx hb dX1_setField_4 rfl (lv_at hl 1 rfl) ?_
  refine st_iald E hw 4 0 rfl rfl (i := n) (by omega) (by decide) (v := st_o ((tF T) n)) rfl dX1_setField_5 ?_
  refine st_dialt (v := (st_had (tF T n))) hx hb dX1_setField_6 dX1_setField_9 dX1_setField_10 dX1_setField_13 (st_had0 (fun z hz => by have := hT.2.2.2 _ _ hz; omega)) (st_had1) ?_
  refine lv_istore (lv' := [(4, .int ((st_had (tF T n)))), (0, .ref h), (1, .int (nI n)), (2, .int (st_o o)), (3, .int (st_b b))]) hx hb dX1_setField_14 hl (by decide) rfl (fun ls hl => ?_)
  refine lv_aload_n hx hb dX1_setField_16 rfl (lv_at hl 1 rfl) ?_
  refine st_get1 E hw rfl 3 (by decide) q151 (v := .ref (ad 3)) rfl dX1_setField_17 ?_
  refine lv_iload_n hx hb dX1_setField_20 rfl (lv_at hl 2 rfl) ?_
  refine lv_iload_n hx hb dX1_setField_21 rfl (lv_at hl 3 rfl) ?_
  refine st_iast E hw 4 0 rfl rfl (i := n) (by omega) (by decide) (fun j => st_o ((va_up (tF T) n o) j)) (fun j => st_up st_o _ _ o j) dX1_setField_22 (fun H locs (hw : st_W D A s.heap (w1 h ad k (tS T, tA T, tR T, va_up (tF T) n o, tO T) (kb, bl)) H locs) => ?_)
  refine lv_aload_n hx hb dX1_setField_23 rfl (lv_at hl 1 rfl) ?_
  refine st_get1 E hw rfl 4 (by decide) q152 (v := .ref (ad 4)) rfl dX1_setField_24 ?_
  refine lv_iload_n hx hb dX1_setField_27 rfl (lv_at hl 2 rfl) ?_
  refine lv_iload_n hx hb dX1_setField_28 rfl (lv_at hl 4 rfl) ?_
  refine st_zast E hw 5 1 rfl rfl (i := n) (by omega) (by decide) (st_b b) (st_nb b) (fun j => st_b ((va_up (tO T) n b) j)) (fun j => st_up st_b _ _ b j) dX1_setField_29 (fun H locs (hw : st_W D A s.heap (w1 h ad k (tS T, tA T, tR T, va_up (tF T) n o, va_up (tO T) n b) (kb, bl)) H locs) => ?_)
  refine lv_aload_n hx hb dX1_setField_30 rfl (lv_at hl 1 rfl) ?_
  refine lv_iconst (v := nI 0) hx hb dX1_setField_31 (by decide) ?_
  refine st_put1 E hw rfl 5 (by decide) q153 rfl .boolean (by decide +kernel) rfl rfl (Nat.le_of_ble_eq_true rfl) dX1_setField_32 (fun H locs (hw : st_W D A s.heap (w1 h ad k (tS T, tA T, tR T, va_up (tF T) n o, va_up (tO T) n b) (false, bl)) H locs) => ?_)
  refine lv_iload hx hb dX1_setField_35 (lv_at hl 0 rfl) ?_
  exact st_ri E hr hlk () hw rfl dX1_setField_37
set_option maxHeartbeats 4000000 in
set_option maxRecDepth 100000 in
/-- field(x, y, z, v) -/
theorem mX1_field (l : Launch) (D : va_G) (A : Nat → Prop) (h : Nat) (ad : Nat → Nat) (k : Nat → ClassId) (T : TT) (kb : Bool) (bl : Nat → Bool) (x y z v : Int32) (hT : st_wf T) (hM : st_MI T (kb, bl)) : Met l yX1_field (ws_ yX1_field cX1_field 6 (some .int)) ({ frames := 2, cells := 0, slots := 0, locals := 43 }) (va_Pc [.ref h, .int (x), .int (y), .int (z), .int (v)] (st_I D A (w1 h ad k T (kb, bl)) (ty1 k))) (va_Qi (fun (r : Int32) (u : S1) => r = st_fdR T x y z ∧ st_MI (st_fdT T x y z v) u) (fun u t => st_I D A (w1 h ad k (st_fdT T x y z v) u) (ty1 k) t) A) 0 0 A := by
  refine st_start (by decide) (Nat.le_of_ble_eq_true rfl) (fun p e s m below meth c E hr hlk hw ls hl => ?_)
  have hx := E.1
  have hb := E.2.1
  have E : st_E p s m c cX1_field 6 _ RX1 D (ty1 k) := E
  have hl : lv_has ls 6 [(0, .ref h), (1, .int (x)), (2, .int (y)), (3, .int (z)), (4, .int (v))] := hl
  refine lv_aload_n hx hb dX1_field_0 rfl (lv_at hl 0 rfl) ?_
  refine lv_iload_n hx hb dX1_field_1 rfl (lv_at hl 3 rfl) ?_
  refine st_callT (As := [.int (z)]) (rest := []) E hw (mX1_bad l D A h ad k T kb bl z) (lw_V q174 q176 qs9 q17 q177) hdX1_bad rfl ⟨rfl, rfl⟩ ⟨Nat.le_of_ble_eq_true rfl, Nat.le_of_ble_eq_true rfl⟩ (ci := 1) rfl rfl rfl hl.1 rfl (Nat.le_of_ble_eq_true rfl) dX1_field_2 (fun r u H locs hp hw => ?_)
  subst hp
  have hw : st_W D A s.heap (w1 h ad k T (kb, bl)) H locs := hw
  refine st_ifeqp (tgt := 10) hx hb dX1_field_5 (by decide) (fun hc => ?_) (fun hc => ?_)
  · obtain ⟨d, h_d, rfl⟩ := st_ty_s hc
    refine lv_aload_n hx hb dX1_field_10 rfl (lv_at hl 0 rfl) ?_
    refine lv_iload_n hx hb dX1_field_11 rfl (lv_at hl 1 rfl) ?_
    refine lv_iload_n hx hb dX1_field_12 rfl (lv_at hl 2 rfl) ?_
    refine st_callT (As := [.int (x), .int (y)]) (rest := []) E hw (mX1_refusal l D A h ad k T kb bl x y hT) (lw_V q186 q188 qs10 q17 q189) hdX1_refusal rfl ⟨rfl, rfl⟩ ⟨Nat.le_of_ble_eq_true rfl, Nat.le_of_ble_eq_true rfl⟩ (ci := 1) rfl rfl rfl hl.1 rfl (Nat.le_of_ble_eq_true rfl) dX1_field_13 (fun r u H locs hp hw => ?_)
    subst hp
    have hw : st_W D A s.heap (w1 h ad k T (kb, bl)) H locs := hw
    refine lv_istore (lv' := [(5, .int ((st_rfR T x y))), (0, .ref h), (1, .int (x)), (2, .int (y)), (3, .int (nI d)), (4, .int (v))]) hx hb dX1_field_16 hl (by decide) rfl (fun ls hl => ?_)
    refine lv_iload hx hb dX1_field_18 (lv_at hl 0 rfl) ?_
    rcases st_rf_c T x y with ⟨a, l1, h_a, h_l, rfl, rfl, h5, e0⟩ | ⟨hneg, hfd, -, -⟩
    · refine lv_if_ge (tgt := 26) hx hb dX1_field_20 (by decide) (fun hg => ?_) (fun hg => ?_)
      · refine lv_aload_n hx hb dX1_field_26 rfl (lv_at hl 1 rfl) ?_
        refine lv_iload_n hx hb dX1_field_27 rfl (lv_at hl 2 rfl) ?_
        refine lv_iconst (v := nI 4) hx hb dX1_field_28 (by decide) ?_
        refine st_imul hx hb dX1_field_29 ?_
        refine lv_iload_n hx hb dX1_field_30 rfl (lv_at hl 3 rfl) ?_
        refine st_iadd hx hb dX1_field_31 ?_
        refine lv_iload_n hx hb dX1_field_32 rfl (lv_at hl 4 rfl) ?_
        refine lv_iload hx hb dX1_field_33 (lv_at hl 5 rfl) ?_
        refine st_diaeq (v := st_b (decide (v ≠ 0))) hx hb dX1_field_35 dX1_field_38 dX1_field_39 dX1_field_42 (st_bd0) (st_bd1) ?_
        refine st_callT (As := [.int (nI (a * 4 + l1)), .int (nI d), .int (st_b (decide (v ≠ 0)))]) (rest := []) E hw (mX1_setField l D A h ad k T kb bl (a * 4 + l1) (some d) (decide (v ≠ 0)) (by omega) hT) (lw_V q190 q192 qs11 q17 q193) hdX1_setField rfl ⟨rfl, rfl⟩ ⟨Nat.le_of_ble_eq_true rfl, Nat.le_of_ble_eq_true rfl⟩ (ci := 1) rfl rfl rfl hl.1 rfl (Nat.le_of_ble_eq_true rfl) dX1_field_43 (fun r u H locs hp hw => ?_)
        subst hp
        have e : st_fdT T (nI a) (nI l1) (nI d) v = st_set T (a * 4 + l1) (some d) (decide (v ≠ 0)) := by simp only [st_fdT, st_ty_n h_a, st_ty_n h_d, st_lb_n h_l, if_pos h5]
        exact st_ri E hr hlk (false, bl) (by show st_W D A s.heap (w1 h ad k (st_fdT T (nI a) (nI l1) (nI d) v) (false, bl)) _ _; rw [e]; exact hw) ⟨by simp only [st_fdR, st_ty_n h_a, st_ty_n h_d, st_lb_n h_l, if_pos h5], st_MI_0⟩ dX1_field_46
      · exact absurd (by rw [e0]; decide) hg
    · obtain ⟨e1, e2⟩ := hfd (nI d) d (st_ty_n h_d)
      refine lv_if_ge (tgt := 26) hx hb dX1_field_20 (by decide) (fun hg => ?_) (fun hg => ?_)
      · exact absurd hg (Int32.not_le.mpr hneg)
      · refine lv_iload hx hb dX1_field_23 (lv_at hl 0 rfl) ?_
        exact st_ri E hr hlk (kb, bl) (by show st_W D A s.heap (w1 h ad k (st_fdT T x y (nI d) v) (kb, bl)) _ _; rw [e2]; exact hw) ⟨e1.symm, by rw [e2]; exact hM⟩ dX1_field_25
  · refine lv_iconst (v := st_o none) hx hb dX1_field_8 (by decide) ?_
    have e : st_fdT T x y z v = T ∧ st_fdR T x y z = -1 := by rcases hx9 : st_ty x with _ | a <;> simp only [st_fdT, st_fdR, hx9, hc, and_self]
    exact st_ri E hr hlk (kb, bl) (by show st_W D A s.heap (w1 h ad k (st_fdT T x y z v) (kb, bl)) _ _; rw [e.1]; exact hw) ⟨e.2.symm, by rw [e.1]; exact hM⟩ dX1_field_9
set_option maxHeartbeats 4000000 in
set_option maxRecDepth 100000 in
/-- dropField(x, y) -/
theorem mX1_dropField (l : Launch) (D : va_G) (A : Nat → Prop) (h : Nat) (ad : Nat → Nat) (k : Nat → ClassId) (T : TT) (kb : Bool) (bl : Nat → Bool) (x y : Int32) (hT : st_wf T) (hM : st_MI T (kb, bl)) : Met l yX1_dropField (ws_ yX1_dropField cX1_dropField 4 (some .int)) ({ frames := 2, cells := 0, slots := 0, locals := 43 }) (va_Pc [.ref h, .int (x), .int (y)] (st_I D A (w1 h ad k T (kb, bl)) (ty1 k))) (va_Qi (fun (r : Int32) (u : S1) => r = st_dpR T x y ∧ st_MI (st_dpT T x y) u) (fun u t => st_I D A (w1 h ad k (st_dpT T x y) u) (ty1 k) t) A) 0 0 A := by
  refine st_start (by decide) (Nat.le_of_ble_eq_true rfl) (fun p e s m below meth c E hr hlk hw ls hl => ?_)
  have hx := E.1
  have hb := E.2.1
  have E : st_E p s m c cX1_dropField 4 _ RX1 D (ty1 k) := E
  have hl : lv_has ls 4 [(0, .ref h), (1, .int (x)), (2, .int (y))] := hl
  refine lv_aload_n hx hb dX1_dropField_0 rfl (lv_at hl 0 rfl) ?_
  refine lv_iload_n hx hb dX1_dropField_1 rfl (lv_at hl 1 rfl) ?_
  refine lv_iload_n hx hb dX1_dropField_2 rfl (lv_at hl 2 rfl) ?_
  refine st_callT (As := [.int (x), .int (y)]) (rest := []) E hw (mX1_refusal l D A h ad k T kb bl x y hT) (lw_V q186 q188 qs10 q17 q189) hdX1_refusal rfl ⟨rfl, rfl⟩ ⟨Nat.le_of_ble_eq_true rfl, Nat.le_of_ble_eq_true rfl⟩ (ci := 1) rfl rfl rfl hl.1 rfl (Nat.le_of_ble_eq_true rfl) dX1_dropField_3 (fun r u H locs hp hw => ?_)
  subst hp
  have hw : st_W D A s.heap (w1 h ad k T (kb, bl)) H locs := hw
  refine lv_istore_n (lv' := [(3, .int ((st_rfR T x y))), (0, .ref h), (1, .int (x)), (2, .int (y))]) hx hb dX1_dropField_6 rfl hl (by decide) rfl (fun ls hl => ?_)
  refine lv_iload_n hx hb dX1_dropField_7 rfl (lv_at hl 0 rfl) ?_
  rcases st_rf_c T x y with ⟨a, l1, h_a, h_l, rfl, rfl, h5, e0⟩ | ⟨hneg, -, e1, e2⟩
  · refine lv_if_ge (tgt := 13) hx hb dX1_dropField_8 (by decide) (fun hg => ?_) (fun hg => ?_)
    · refine lv_aload_n hx hb dX1_dropField_13 rfl (lv_at hl 1 rfl) ?_
      refine lv_iload_n hx hb dX1_dropField_14 rfl (lv_at hl 2 rfl) ?_
      refine lv_iconst (v := nI 4) hx hb dX1_dropField_15 (by decide) ?_
      refine st_imul hx hb dX1_dropField_16 ?_
      refine lv_iload_n hx hb dX1_dropField_17 rfl (lv_at hl 3 rfl) ?_
      refine st_iadd hx hb dX1_dropField_18 ?_
      refine lv_iconst (v := st_o none) hx hb dX1_dropField_19 (by decide) ?_
      refine lv_iconst (v := st_b false) hx hb dX1_dropField_20 (by decide) ?_
      refine st_callT (As := [.int (nI (a * 4 + l1)), .int (st_o none), .int (st_b false)]) (rest := []) E hw (mX1_setField l D A h ad k T kb bl (a * 4 + l1) none false (by omega) hT) (lw_V q190 q192 qs11 q17 q193) hdX1_setField rfl ⟨rfl, rfl⟩ ⟨Nat.le_of_ble_eq_true rfl, Nat.le_of_ble_eq_true rfl⟩ (ci := 1) rfl rfl rfl hl.1 rfl (Nat.le_of_ble_eq_true rfl) dX1_dropField_21 (fun r u H locs hp hw => ?_)
      subst hp
      have e : st_dpT T (nI a) (nI l1) = st_set T (a * 4 + l1) none false := by simp only [st_dpT, st_ty_n h_a, st_lb_n h_l, if_pos h5]
      exact st_ri E hr hlk (false, bl) (by show st_W D A s.heap (w1 h ad k (st_dpT T (nI a) (nI l1)) (false, bl)) _ _; rw [e]; exact hw) ⟨by simp only [st_dpR, st_ty_n h_a, st_lb_n h_l, if_pos h5], st_MI_0⟩ dX1_dropField_24
    · exact absurd (by rw [e0]; decide) hg
  · refine lv_if_ge (tgt := 13) hx hb dX1_dropField_8 (by decide) (fun hg => ?_) (fun hg => ?_)
    · exact absurd hg (Int32.not_le.mpr hneg)
    · refine lv_iload_n hx hb dX1_dropField_11 rfl (lv_at hl 0 rfl) ?_
      exact st_ri E hr hlk (kb, bl) (by show st_W D A s.heap (w1 h ad k (st_dpT T x y) (kb, bl)) _ _; rw [e2]; exact hw) ⟨e1.symm, by rw [e2]; exact hM⟩ dX1_dropField_12
set_option maxHeartbeats 4000000 in
set_option maxRecDepth 100000 in
/-- shapeOf(x) -/
theorem mX1_shapeOf (l : Launch) (D : va_G) (A : Nat → Prop) (h : Nat) (ad : Nat → Nat) (k : Nat → ClassId) (T : TT) (kb : Bool) (bl : Nat → Bool) (x : Int32) (hM : st_MI T (kb, bl)) : Met l yX1_shapeOf (ws_ yX1_shapeOf cX1_shapeOf 2 (some .int)) ({ frames := 1, cells := 0, slots := 0, locals := 21 }) (va_Pc [.ref h, .int (x)] (st_I D A (w1 h ad k T (kb, bl)) (ty1 k))) (va_Qi (fun (r : Int32) (u : S1) => r = st_soR T x ∧ st_MI T u) (fun u t => st_I D A (w1 h ad k T u) (ty1 k) t) A) 0 0 A := by
  refine st_start (by decide) (Nat.le_of_ble_eq_true rfl) (fun p e s m below meth c E hr hlk hw ls hl => ?_)
  have hx := E.1
  have hb := E.2.1
  have E : st_E p s m c cX1_shapeOf 2 _ RX1 D (ty1 k) := E
  have hl : lv_has ls 2 [(0, .ref h), (1, .int (x))] := hl
  refine lv_aload_n hx hb dX1_shapeOf_0 rfl (lv_at hl 0 rfl) ?_
  refine lv_iload_n hx hb dX1_shapeOf_1 rfl (lv_at hl 1 rfl) ?_
  refine st_callT (As := [.int (x)]) (rest := []) E hw (mX1_bad l D A h ad k T kb bl x) (lw_V q174 q176 qs9 q17 q177) hdX1_bad rfl ⟨rfl, rfl⟩ ⟨Nat.le_of_ble_eq_true rfl, Nat.le_of_ble_eq_true rfl⟩ (ci := 1) rfl rfl rfl hl.1 rfl (Nat.le_of_ble_eq_true rfl) dX1_shapeOf_2 (fun r u H locs hp hw => ?_)
  subst hp
  have hw : st_W D A s.heap (w1 h ad k T (kb, bl)) H locs := hw
  refine st_ifeqp (tgt := 12) hx hb dX1_shapeOf_5 (by decide) (fun hc => ?_) (fun hc => ?_)
  · obtain ⟨a, h_a, rfl⟩ := st_ty_s hc
    refine lv_aload_n hx hb dX1_shapeOf_12 rfl (lv_at hl 0 rfl) ?_
    refine st_get1 E hw rfl 0 (by decide) q148 (v := .ref (ad 0)) rfl dX1_shapeOf_13 ?_
    refine lv_iload_n hx hb dX1_shapeOf_16 rfl (lv_at hl 1 rfl) ?_
    refine st_iald E hw 1 0 rfl rfl (i := a) (by omega) (by decide) (v := nI ((tS T) a)) rfl dX1_shapeOf_17 ?_
    exact st_ri E hr hlk (kb, bl) hw ⟨by simp only [st_soR, st_ty_n h_a], hM⟩ dX1_shapeOf_18
  · refine lv_iconst (v := st_o none) hx hb dX1_shapeOf_8 (by decide) ?_
    refine lv_goto (tgt := 18) hx hb dX1_shapeOf_9 (by decide) ?_
    exact st_ri E hr hlk (kb, bl) hw ⟨by simp only [st_soR, hc]; rfl, hM⟩ dX1_shapeOf_18
end
section
/-! StructuralTypesModel: the questions -/
set_option maxHeartbeats 4000000 in
set_option maxRecDepth 100000 in
/-- fieldOk(i, j) -/
theorem mX1_fieldOk (l : Launch) (D : va_G) (A : Nat → Prop) (h : Nat) (ad : Nat → Nat) (k : Nat → ClassId) (T : TT) (kb : Bool) (bl : Nat → Bool) (i j : Nat) (h_i : i < 64) (h_j : j < 64) (hT : st_wf T) : Met l yX1_fieldOk (ws_ yX1_fieldOk cX1_fieldOk 3 (some .boolean)) ({ frames := 0, cells := 0, slots := 0, locals := 0 }) (va_Pc [.ref h, .int (nI i), .int (nI j)] (st_I D A (w1 h ad k T (kb, bl)) (ty1 k))) (va_Qi (fun (r : Int32) (u : Unit) => r = st_p (st_fr T (fun q => bl q = true) i j)) (fun u t => st_I D A (w1 h ad k T (kb, bl)) (ty1 k) t) A) 0 0 A := by
  refine st_start (by decide) (Nat.le_of_ble_eq_true rfl) (fun p e s m below meth c E hr hlk hw ls hl => ?_)
  have hx := E.1
  have hb := E.2.1
  have E : st_E p s m c cX1_fieldOk 3 _ RX1 D (ty1 k) := E
  have hl : lv_has ls 3 [(0, .ref h), (1, .int (nI i)), (2, .int (nI j))] := hl
  refine lv_aload_n hx hb dX1_fieldOk_0 rfl (lv_at hl 0 rfl) ?_
  refine st_get1 E hw rfl 3 (by decide) q151 (v := .ref (ad 3)) rfl dX1_fieldOk_1 ?_
  refine lv_iload_n hx hb dX1_fieldOk_4 rfl (lv_at hl 2 rfl) ?_
  refine st_iald E hw 4 0 rfl rfl (i := j) (by omega) (by decide) (v := st_o ((tF T) j)) rfl dX1_fieldOk_5 ?_
  refine st_ifgeO (tgt := 11) hx hb dX1_fieldOk_6 (by decide) (fun z hz => by have := hT.2.2.2 _ _ hz; omega) (fun y hy => ?_) (fun hc => ?_)
  · refine lv_aload_n hx hb dX1_fieldOk_11 rfl (lv_at hl 0 rfl) ?_
    refine st_get1 E hw rfl 3 (by decide) q151 (v := .ref (ad 3)) rfl dX1_fieldOk_12 ?_
    refine lv_iload_n hx hb dX1_fieldOk_15 rfl (lv_at hl 1 rfl) ?_
    refine st_iald E hw 4 0 rfl rfl (i := i) (by omega) (by decide) (v := st_o ((tF T) i)) rfl dX1_fieldOk_16 ?_
    refine st_ifltO (tgt := 38) hx hb dX1_fieldOk_17 (by decide) (fun z hz => by have := hT.2.2.2 _ _ hz; omega) (fun hv => ?_) (fun v hv => ?_)
    · refine lv_iconst (v := nI 0) hx hb dX1_fieldOk_38 (by decide) ?_
      exact st_rz E hr hlk () hw rfl (st_p0 (fun hr => by obtain ⟨z, ez, oz, -⟩ := hr y hy; rw [hv] at ez; cases ez)).symm dX1_fieldOk_39
    · refine lv_aload_n hx hb dX1_fieldOk_20 rfl (lv_at hl 0 rfl) ?_
      refine st_get1 E hw rfl 4 (by decide) q152 (v := .ref (ad 4)) rfl dX1_fieldOk_21 ?_
      refine lv_iload_n hx hb dX1_fieldOk_24 rfl (lv_at hl 1 rfl) ?_
      refine st_zald E hw 5 1 rfl rfl (i := i) (by omega) (by decide) (v := st_b ((tO T) i)) rfl dX1_fieldOk_25 ?_
      refine st_ifeqb (tgt := 40) hx hb dX1_fieldOk_26 (by decide) (fun he => ?_) (fun he => ?_)
      · have h_o : tO T i = true → tO T j = true := fun z => by rw [he] at z; cases z
        have h_v := hT.2.2.2 _ _ hv
        have h_y := hT.2.2.2 _ _ hy
        refine lv_aload_n hx hb dX1_fieldOk_40 rfl (lv_at hl 0 rfl) ?_
        refine st_get1 E hw rfl 6 (by decide) q154 (v := .ref (ad 5)) rfl dX1_fieldOk_41 ?_
        refine lv_aload_n hx hb dX1_fieldOk_44 rfl (lv_at hl 0 rfl) ?_
        refine st_get1 E hw rfl 3 (by decide) q151 (v := .ref (ad 3)) rfl dX1_fieldOk_45 ?_
        refine lv_iload_n hx hb dX1_fieldOk_48 rfl (lv_at hl 1 rfl) ?_
        refine st_iald E hw 4 0 rfl rfl (i := i) (by omega) (by decide) (v := st_o ((tF T) i)) rfl dX1_fieldOk_49 ?_
        refine st_top (y := nI v) (by rw [hv]; rfl) ?_
        refine lv_bipush (v := nI 16) hx hb dX1_fieldOk_50 (by decide) ?_
        refine st_imul hx hb dX1_fieldOk_52 ?_
        refine lv_aload_n hx hb dX1_fieldOk_53 rfl (lv_at hl 0 rfl) ?_
        refine st_get1 E hw rfl 3 (by decide) q151 (v := .ref (ad 3)) rfl dX1_fieldOk_54 ?_
        refine lv_iload_n hx hb dX1_fieldOk_57 rfl (lv_at hl 2 rfl) ?_
        refine st_iald E hw 4 0 rfl rfl (i := j) (by omega) (by decide) (v := st_o ((tF T) j)) rfl dX1_fieldOk_58 ?_
        refine st_top (y := nI y) (by rw [hy]; rfl) ?_
        refine st_iadd hx hb dX1_fieldOk_59 ?_
        refine st_zald E hw 6 1 rfl rfl (i := v * 16 + y) (by omega) (by decide) (v := st_b (bl (v * 16 + y))) rfl dX1_fieldOk_60 ?_
        exact st_rz E hr hlk () hw (st_bz _) ((st_bp _).trans (st_p_c ⟨fun hR z hz => by rw [hy] at hz; cases hz; exact ⟨v, hv, h_o, hR⟩, fun hr => by obtain ⟨z, ez, -, hR⟩ := hr y hy; rw [hv] at ez; cases ez; exact hR⟩)) dX1_fieldOk_61
      · refine lv_aload_n hx hb dX1_fieldOk_29 rfl (lv_at hl 0 rfl) ?_
        refine st_get1 E hw rfl 4 (by decide) q152 (v := .ref (ad 4)) rfl dX1_fieldOk_30 ?_
        refine lv_iload_n hx hb dX1_fieldOk_33 rfl (lv_at hl 2 rfl) ?_
        refine st_zald E hw 5 1 rfl rfl (i := j) (by omega) (by decide) (v := st_b ((tO T) j)) rfl dX1_fieldOk_34 ?_
        refine st_ifneb (tgt := 40) hx hb dX1_fieldOk_35 (by decide) (fun hf => ?_) (fun hf => ?_)
        · have h_o : tO T i = true → tO T j = true := fun _ => hf
          have h_v := hT.2.2.2 _ _ hv
          have h_y := hT.2.2.2 _ _ hy
          refine lv_aload_n hx hb dX1_fieldOk_40 rfl (lv_at hl 0 rfl) ?_
          refine st_get1 E hw rfl 6 (by decide) q154 (v := .ref (ad 5)) rfl dX1_fieldOk_41 ?_
          refine lv_aload_n hx hb dX1_fieldOk_44 rfl (lv_at hl 0 rfl) ?_
          refine st_get1 E hw rfl 3 (by decide) q151 (v := .ref (ad 3)) rfl dX1_fieldOk_45 ?_
          refine lv_iload_n hx hb dX1_fieldOk_48 rfl (lv_at hl 1 rfl) ?_
          refine st_iald E hw 4 0 rfl rfl (i := i) (by omega) (by decide) (v := st_o ((tF T) i)) rfl dX1_fieldOk_49 ?_
          refine st_top (y := nI v) (by rw [hv]; rfl) ?_
          refine lv_bipush (v := nI 16) hx hb dX1_fieldOk_50 (by decide) ?_
          refine st_imul hx hb dX1_fieldOk_52 ?_
          refine lv_aload_n hx hb dX1_fieldOk_53 rfl (lv_at hl 0 rfl) ?_
          refine st_get1 E hw rfl 3 (by decide) q151 (v := .ref (ad 3)) rfl dX1_fieldOk_54 ?_
          refine lv_iload_n hx hb dX1_fieldOk_57 rfl (lv_at hl 2 rfl) ?_
          refine st_iald E hw 4 0 rfl rfl (i := j) (by omega) (by decide) (v := st_o ((tF T) j)) rfl dX1_fieldOk_58 ?_
          refine st_top (y := nI y) (by rw [hy]; rfl) ?_
          refine st_iadd hx hb dX1_fieldOk_59 ?_
          refine st_zald E hw 6 1 rfl rfl (i := v * 16 + y) (by omega) (by decide) (v := st_b (bl (v * 16 + y))) rfl dX1_fieldOk_60 ?_
          exact st_rz E hr hlk () hw (st_bz _) ((st_bp _).trans (st_p_c ⟨fun hR z hz => by rw [hy] at hz; cases hz; exact ⟨v, hv, h_o, hR⟩, fun hr => by obtain ⟨z, ez, -, hR⟩ := hr y hy; rw [hv] at ez; cases ez; exact hR⟩)) dX1_fieldOk_61
        · refine lv_iconst (v := nI 0) hx hb dX1_fieldOk_38 (by decide) ?_
          exact st_rz E hr hlk () hw rfl (st_p0 (fun hr => by obtain ⟨z, ez, oz, -⟩ := hr y hy; have := oz he; rw [hf] at this; cases this)).symm dX1_fieldOk_39
  · refine lv_iconst (v := nI 1) hx hb dX1_fieldOk_9 (by decide) ?_
    exact st_rz E hr hlk () hw rfl (st_p1 (fun z hz => by rw [hc] at hz; cases hz)).symm dX1_fieldOk_10
theorem st_four {P : Nat → Nat → Prop} {a b : Nat} (h0 : P (a * 4) (b * 4)) (h1 : P (a * 4 + 1) (b * 4 + 1)) (h2 : P (a * 4 + 2) (b * 4 + 2)) (h3 : P (a * 4 + 3) (b * 4 + 3)) (l : Nat) (hl : l < 4) : P (a * 4 + l) (b * 4 + l) := by
  match l, hl with
  | 0, _ => exact h0
  | 1, _ => exact h1
  | 2, _ => exact h2
  | 3, _ => exact h3
set_option maxHeartbeats 4000000 in
set_option maxRecDepth 100000 in
/-- holds(a, b) -/
theorem mX1_holds (l : Launch) (D : va_G) (A : Nat → Prop) (h : Nat) (ad : Nat → Nat) (k : Nat → ClassId) (T : TT) (kb : Bool) (bl : Nat → Bool) (a b : Nat) (h_a : a < 16) (h_b : b < 16) (hT : st_wf T) : Met l yX1_holds (ws_ yX1_holds cX1_holds 3 (some .boolean)) ({ frames := 1, cells := 0, slots := 0, locals := 22 }) (va_Pc [.ref h, .int (nI a), .int (nI b)] (st_I D A (w1 h ad k T (kb, bl)) (ty1 k))) (va_Qi (fun (r : Int32) (u : Unit) => r = st_p (st_rl T (fun q => bl q = true) a b)) (fun u t => st_I D A (w1 h ad k T (kb, bl)) (ty1 k) t) A) 0 0 A := by
  refine st_start (by decide) (Nat.le_of_ble_eq_true rfl) (fun p e s m below meth c E hr hlk hw ls hl => ?_)
  have hx := E.1
  have hb := E.2.1
  have E : st_E p s m c cX1_holds 3 _ RX1 D (ty1 k) := E
  have hl : lv_has ls 3 [(0, .ref h), (1, .int (nI a)), (2, .int (nI b))] := hl
  have h_s := hT.1 a
  have h_t := hT.1 b
  have h_1 := hT.2.1 a
  have h_2 := hT.2.1 b
  have h_3 := hT.2.2.1 a
  have h_4 := hT.2.2.1 b
  refine lv_aload_n hx hb dX1_holds_0 rfl (lv_at hl 0 rfl) ?_
  refine st_get1 E hw rfl 0 (by decide) q148 (v := .ref (ad 0)) rfl dX1_holds_1 ?_
  refine lv_iload_n hx hb dX1_holds_4 rfl (lv_at hl 2 rfl) ?_
  refine st_iald E hw 1 0 rfl rfl (i := b) (by omega) (by decide) (v := nI ((tS T) b)) rfl dX1_holds_5 ?_
  refine lv_iconst (v := nI 2) hx hb dX1_holds_6 (by decide) ?_
  refine st_iceq (tgt := 20) hx hb dX1_holds_7 (by decide) (by omega) (by omega) (fun hc => ?_) (fun hc => ?_)
  · refine lv_iconst (v := nI 1) hx hb dX1_holds_20 (by decide) ?_
    exact st_rz E hr hlk () hw rfl (st_p1 (Or.inl hc)).symm dX1_holds_21
  · refine lv_aload_n hx hb dX1_holds_10 rfl (lv_at hl 0 rfl) ?_
    refine st_get1 E hw rfl 0 (by decide) q148 (v := .ref (ad 0)) rfl dX1_holds_11 ?_
    refine lv_iload_n hx hb dX1_holds_14 rfl (lv_at hl 1 rfl) ?_
    refine st_iald E hw 1 0 rfl rfl (i := a) (by omega) (by decide) (v := nI ((tS T) a)) rfl dX1_holds_15 ?_
    refine lv_iconst (v := nI 3) hx hb dX1_holds_16 (by decide) ?_
    refine st_icne (tgt := 22) hx hb dX1_holds_17 (by decide) (by omega) (by omega) (fun hd => ?_) (fun hd => ?_)
    · refine lv_aload_n hx hb dX1_holds_22 rfl (lv_at hl 0 rfl) ?_
      refine st_get1 E hw rfl 0 (by decide) q148 (v := .ref (ad 0)) rfl dX1_holds_23 ?_
      refine lv_iload_n hx hb dX1_holds_26 rfl (lv_at hl 1 rfl) ?_
      refine st_iald E hw 1 0 rfl rfl (i := a) (by omega) (by decide) (v := nI ((tS T) a)) rfl dX1_holds_27 ?_
      refine lv_aload_n hx hb dX1_holds_28 rfl (lv_at hl 0 rfl) ?_
      refine st_get1 E hw rfl 0 (by decide) q148 (v := .ref (ad 0)) rfl dX1_holds_29 ?_
      refine lv_iload_n hx hb dX1_holds_32 rfl (lv_at hl 2 rfl) ?_
      refine st_iald E hw 1 0 rfl rfl (i := b) (by omega) (by decide) (v := nI ((tS T) b)) rfl dX1_holds_33 ?_
      refine st_iceq (tgt := 39) hx hb dX1_holds_34 (by decide) (by omega) (by omega) (fun he => ?_) (fun he => ?_)
      · refine lv_aload_n hx hb dX1_holds_39 rfl (lv_at hl 0 rfl) ?_
        refine st_get1 E hw rfl 0 (by decide) q148 (v := .ref (ad 0)) rfl dX1_holds_40 ?_
        refine lv_iload_n hx hb dX1_holds_43 rfl (lv_at hl 1 rfl) ?_
        refine st_iald E hw 1 0 rfl rfl (i := a) (by omega) (by decide) (v := nI ((tS T) a)) rfl dX1_holds_44 ?_
        refine lv_iconst (v := nI 4) hx hb dX1_holds_45 (by decide) ?_
        refine st_icne (tgt := 103) hx hb dX1_holds_46 (by decide) (by omega) (by omega) (fun hf => ?_) (fun hf => ?_)
        · refine lv_aload_n hx hb dX1_holds_103 rfl (lv_at hl 0 rfl) ?_
          refine st_get1 E hw rfl 0 (by decide) q148 (v := .ref (ad 0)) rfl dX1_holds_104 ?_
          refine lv_iload_n hx hb dX1_holds_107 rfl (lv_at hl 1 rfl) ?_
          refine st_iald E hw 1 0 rfl rfl (i := a) (by omega) (by decide) (v := nI ((tS T) a)) rfl dX1_holds_108 ?_
          refine lv_iconst (v := nI 5) hx hb dX1_holds_109 (by decide) ?_
          refine st_icne (tgt := 183) hx hb dX1_holds_110 (by decide) (by omega) (by omega) (fun hg => ?_) (fun hg => ?_)
          · refine lv_aload_n hx hb dX1_holds_183 rfl (lv_at hl 0 rfl) ?_
            refine st_get1 E hw rfl 0 (by decide) q148 (v := .ref (ad 0)) rfl dX1_holds_184 ?_
            refine lv_iload_n hx hb dX1_holds_187 rfl (lv_at hl 1 rfl) ?_
            refine st_iald E hw 1 0 rfl rfl (i := a) (by omega) (by decide) (v := nI ((tS T) a)) rfl dX1_holds_188 ?_
            refine st_ifeqn (tgt := 202) hx hb dX1_holds_189 (by decide) (by omega) (fun hi => ?_) (fun hi => ?_)
            · refine lv_iconst (v := nI 1) hx hb dX1_holds_202 (by decide) ?_
              refine lv_goto (tgt := 207) hx hb dX1_holds_203 (by decide) ?_
              exact st_rz E hr hlk () hw rfl (st_p1 (Or.inr (Or.inr ⟨he, fun q => absurd q hf, fun q => absurd q hg⟩))).symm dX1_holds_207
            · refine lv_aload_n hx hb dX1_holds_192 rfl (lv_at hl 0 rfl) ?_
              refine st_get1 E hw rfl 0 (by decide) q148 (v := .ref (ad 0)) rfl dX1_holds_193 ?_
              refine lv_iload_n hx hb dX1_holds_196 rfl (lv_at hl 1 rfl) ?_
              refine st_iald E hw 1 0 rfl rfl (i := a) (by omega) (by decide) (v := nI ((tS T) a)) rfl dX1_holds_197 ?_
              refine lv_iconst (v := nI 1) hx hb dX1_holds_198 (by decide) ?_
              refine st_icne (tgt := 206) hx hb dX1_holds_199 (by decide) (by omega) (by omega) (fun hj => ?_) (fun hj => ?_)
              · omega
              · refine lv_iconst (v := nI 1) hx hb dX1_holds_202 (by decide) ?_
                refine lv_goto (tgt := 207) hx hb dX1_holds_203 (by decide) ?_
                exact st_rz E hr hlk () hw rfl (st_p1 (Or.inr (Or.inr ⟨he, fun q => absurd q hf, fun q => absurd q hg⟩))).symm dX1_holds_207
          · have h_b5 : tS T b = 5 := he.symm.trans hg
            refine lv_aload_n hx hb dX1_holds_113 rfl (lv_at hl 0 rfl) ?_
            refine lv_iload_n hx hb dX1_holds_114 rfl (lv_at hl 1 rfl) ?_
            refine lv_iconst (v := nI 4) hx hb dX1_holds_115 (by decide) ?_
            refine st_imul hx hb dX1_holds_116 ?_
            refine lv_iload_n hx hb dX1_holds_117 rfl (lv_at hl 2 rfl) ?_
            refine lv_iconst (v := nI 4) hx hb dX1_holds_118 (by decide) ?_
            refine st_imul hx hb dX1_holds_119 ?_
            refine st_callT (As := [.int (nI (a * 4)), .int (nI (b * 4))]) (rest := []) E hw (mX1_fieldOk l D A h ad k T kb bl (a * 4) (b * 4) (by omega) (by omega) hT) (lw_V q210 q212 qs14 q17 q213) hdX1_fieldOk rfl ⟨rfl, rfl⟩ ⟨Nat.le_of_ble_eq_true rfl, Nat.le_of_ble_eq_true rfl⟩ (ci := 1) rfl rfl rfl hl.1 rfl (Nat.le_of_ble_eq_true rfl) dX1_holds_120 (fun r u H locs hp hw => ?_)
            subst hp
            have hw : st_W D A s.heap (w1 h ad k T (kb, bl)) H locs := hw
            refine st_ifeqp (tgt := 181) hx hb dX1_holds_123 (by decide) (fun h0 => ?_) (fun h0 => ?_)
            · refine lv_iconst (v := nI 0) hx hb dX1_holds_181 (by decide) ?_
              exact st_rz E hr hlk () hw rfl (st_p0 (fun hr => h0 ((st_rl_inv hc hd hr).2.2 hg 0 (by decide)))).symm dX1_holds_182
            · refine lv_aload_n hx hb dX1_holds_126 rfl (lv_at hl 0 rfl) ?_
              refine lv_iload_n hx hb dX1_holds_127 rfl (lv_at hl 1 rfl) ?_
              refine lv_iconst (v := nI 4) hx hb dX1_holds_128 (by decide) ?_
              refine st_imul hx hb dX1_holds_129 ?_
              refine lv_iconst (v := nI 1) hx hb dX1_holds_130 (by decide) ?_
              refine st_iadd hx hb dX1_holds_131 ?_
              refine lv_iload_n hx hb dX1_holds_132 rfl (lv_at hl 2 rfl) ?_
              refine lv_iconst (v := nI 4) hx hb dX1_holds_133 (by decide) ?_
              refine st_imul hx hb dX1_holds_134 ?_
              refine lv_iconst (v := nI 1) hx hb dX1_holds_135 (by decide) ?_
              refine st_iadd hx hb dX1_holds_136 ?_
              refine st_callT (As := [.int (nI (a * 4 + 1)), .int (nI (b * 4 + 1))]) (rest := []) E hw (mX1_fieldOk l D A h ad k T kb bl (a * 4 + 1) (b * 4 + 1) (by omega) (by omega) hT) (lw_V q210 q212 qs14 q17 q213) hdX1_fieldOk rfl ⟨rfl, rfl⟩ ⟨Nat.le_of_ble_eq_true rfl, Nat.le_of_ble_eq_true rfl⟩ (ci := 1) rfl rfl rfl hl.1 rfl (Nat.le_of_ble_eq_true rfl) dX1_holds_137 (fun r u H locs hp hw => ?_)
              subst hp
              have hw : st_W D A s.heap (w1 h ad k T (kb, bl)) H locs := hw
              refine st_ifeqp (tgt := 181) hx hb dX1_holds_140 (by decide) (fun h1 => ?_) (fun h1 => ?_)
              · refine lv_iconst (v := nI 0) hx hb dX1_holds_181 (by decide) ?_
                exact st_rz E hr hlk () hw rfl (st_p0 (fun hr => h1 ((st_rl_inv hc hd hr).2.2 hg 1 (by decide)))).symm dX1_holds_182
              · refine lv_aload_n hx hb dX1_holds_143 rfl (lv_at hl 0 rfl) ?_
                refine lv_iload_n hx hb dX1_holds_144 rfl (lv_at hl 1 rfl) ?_
                refine lv_iconst (v := nI 4) hx hb dX1_holds_145 (by decide) ?_
                refine st_imul hx hb dX1_holds_146 ?_
                refine lv_iconst (v := nI 2) hx hb dX1_holds_147 (by decide) ?_
                refine st_iadd hx hb dX1_holds_148 ?_
                refine lv_iload_n hx hb dX1_holds_149 rfl (lv_at hl 2 rfl) ?_
                refine lv_iconst (v := nI 4) hx hb dX1_holds_150 (by decide) ?_
                refine st_imul hx hb dX1_holds_151 ?_
                refine lv_iconst (v := nI 2) hx hb dX1_holds_152 (by decide) ?_
                refine st_iadd hx hb dX1_holds_153 ?_
                refine st_callT (As := [.int (nI (a * 4 + 2)), .int (nI (b * 4 + 2))]) (rest := []) E hw (mX1_fieldOk l D A h ad k T kb bl (a * 4 + 2) (b * 4 + 2) (by omega) (by omega) hT) (lw_V q210 q212 qs14 q17 q213) hdX1_fieldOk rfl ⟨rfl, rfl⟩ ⟨Nat.le_of_ble_eq_true rfl, Nat.le_of_ble_eq_true rfl⟩ (ci := 1) rfl rfl rfl hl.1 rfl (Nat.le_of_ble_eq_true rfl) dX1_holds_154 (fun r u H locs hp hw => ?_)
                subst hp
                have hw : st_W D A s.heap (w1 h ad k T (kb, bl)) H locs := hw
                refine st_ifeqp (tgt := 181) hx hb dX1_holds_157 (by decide) (fun h2 => ?_) (fun h2 => ?_)
                · refine lv_iconst (v := nI 0) hx hb dX1_holds_181 (by decide) ?_
                  exact st_rz E hr hlk () hw rfl (st_p0 (fun hr => h2 ((st_rl_inv hc hd hr).2.2 hg 2 (by decide)))).symm dX1_holds_182
                · refine lv_aload_n hx hb dX1_holds_160 rfl (lv_at hl 0 rfl) ?_
                  refine lv_iload_n hx hb dX1_holds_161 rfl (lv_at hl 1 rfl) ?_
                  refine lv_iconst (v := nI 4) hx hb dX1_holds_162 (by decide) ?_
                  refine st_imul hx hb dX1_holds_163 ?_
                  refine lv_iconst (v := nI 3) hx hb dX1_holds_164 (by decide) ?_
                  refine st_iadd hx hb dX1_holds_165 ?_
                  refine lv_iload_n hx hb dX1_holds_166 rfl (lv_at hl 2 rfl) ?_
                  refine lv_iconst (v := nI 4) hx hb dX1_holds_167 (by decide) ?_
                  refine st_imul hx hb dX1_holds_168 ?_
                  refine lv_iconst (v := nI 3) hx hb dX1_holds_169 (by decide) ?_
                  refine st_iadd hx hb dX1_holds_170 ?_
                  refine st_callT (As := [.int (nI (a * 4 + 3)), .int (nI (b * 4 + 3))]) (rest := []) E hw (mX1_fieldOk l D A h ad k T kb bl (a * 4 + 3) (b * 4 + 3) (by omega) (by omega) hT) (lw_V q210 q212 qs14 q17 q213) hdX1_fieldOk rfl ⟨rfl, rfl⟩ ⟨Nat.le_of_ble_eq_true rfl, Nat.le_of_ble_eq_true rfl⟩ (ci := 1) rfl rfl rfl hl.1 rfl (Nat.le_of_ble_eq_true rfl) dX1_holds_171 (fun r u H locs hp hw => ?_)
                  subst hp
                  have hw : st_W D A s.heap (w1 h ad k T (kb, bl)) H locs := hw
                  refine st_diaeq (v := st_p (st_fr T (fun q => bl q = true) (a * 4 + 3) (b * 4 + 3))) hx hb dX1_holds_174 dX1_holds_177 dX1_holds_178 dX1_holds_181 (id) (st_p_01) ?_
                  exact st_rz E hr hlk () hw (st_pz _) (st_p_c ⟨fun h3 => Or.inr (Or.inr ⟨he, fun q => absurd q hf, fun _ l1 hl1 => st_four h0 h1 h2 h3 l1 hl1⟩), fun hr => (st_rl_inv hc hd hr).2.2 hg 3 (by decide)⟩) dX1_holds_182
        · refine lv_aload_n hx hb dX1_holds_49 rfl (lv_at hl 0 rfl) ?_
          refine st_get1 E hw rfl 6 (by decide) q154 (v := .ref (ad 5)) rfl dX1_holds_50 ?_
          refine lv_aload_n hx hb dX1_holds_53 rfl (lv_at hl 0 rfl) ?_
          refine st_get1 E hw rfl 1 (by decide) q149 (v := .ref (ad 1)) rfl dX1_holds_54 ?_
          refine lv_iload_n hx hb dX1_holds_57 rfl (lv_at hl 2 rfl) ?_
          refine st_iald E hw 2 0 rfl rfl (i := b) (by omega) (by decide) (v := nI ((tA T) b)) rfl dX1_holds_58 ?_
          refine lv_bipush (v := nI 16) hx hb dX1_holds_59 (by decide) ?_
          refine st_imul hx hb dX1_holds_61 ?_
          refine lv_aload_n hx hb dX1_holds_62 rfl (lv_at hl 0 rfl) ?_
          refine st_get1 E hw rfl 1 (by decide) q149 (v := .ref (ad 1)) rfl dX1_holds_63 ?_
          refine lv_iload_n hx hb dX1_holds_66 rfl (lv_at hl 1 rfl) ?_
          refine st_iald E hw 2 0 rfl rfl (i := a) (by omega) (by decide) (v := nI ((tA T) a)) rfl dX1_holds_67 ?_
          refine st_iadd hx hb dX1_holds_68 ?_
          refine st_zald E hw 6 1 rfl rfl (i := ((tA T) b) * 16 + ((tA T) a)) (by omega) (by decide) (v := st_b (bl (((tA T) b) * 16 + ((tA T) a)))) rfl dX1_holds_69 ?_
          refine st_ifeqb (tgt := 101) hx hb dX1_holds_70 (by decide) (fun hg => ?_) (fun hg => ?_)
          · refine lv_iconst (v := nI 0) hx hb dX1_holds_101 (by decide) ?_
            exact st_rz E hr hlk () hw rfl (st_p0 (fun hr => by have := ((st_rl_inv hc hd hr).2.1 hf).1; rw [hg] at this; cases this)).symm dX1_holds_102
          · refine lv_aload_n hx hb dX1_holds_73 rfl (lv_at hl 0 rfl) ?_
            refine st_get1 E hw rfl 6 (by decide) q154 (v := .ref (ad 5)) rfl dX1_holds_74 ?_
            refine lv_aload_n hx hb dX1_holds_77 rfl (lv_at hl 0 rfl) ?_
            refine st_get1 E hw rfl 2 (by decide) q150 (v := .ref (ad 2)) rfl dX1_holds_78 ?_
            refine lv_iload_n hx hb dX1_holds_81 rfl (lv_at hl 1 rfl) ?_
            refine st_iald E hw 3 0 rfl rfl (i := a) (by omega) (by decide) (v := nI ((tR T) a)) rfl dX1_holds_82 ?_
            refine lv_bipush (v := nI 16) hx hb dX1_holds_83 (by decide) ?_
            refine st_imul hx hb dX1_holds_85 ?_
            refine lv_aload_n hx hb dX1_holds_86 rfl (lv_at hl 0 rfl) ?_
            refine st_get1 E hw rfl 2 (by decide) q150 (v := .ref (ad 2)) rfl dX1_holds_87 ?_
            refine lv_iload_n hx hb dX1_holds_90 rfl (lv_at hl 2 rfl) ?_
            refine st_iald E hw 3 0 rfl rfl (i := b) (by omega) (by decide) (v := nI ((tR T) b)) rfl dX1_holds_91 ?_
            refine st_iadd hx hb dX1_holds_92 ?_
            refine st_zald E hw 6 1 rfl rfl (i := ((tR T) a) * 16 + ((tR T) b)) (by omega) (by decide) (v := st_b (bl (((tR T) a) * 16 + ((tR T) b)))) rfl dX1_holds_93 ?_
            refine st_diaeq (v := st_b (bl (tR T a * 16 + tR T b))) hx hb dX1_holds_94 dX1_holds_97 dX1_holds_98 dX1_holds_101 (id) (fun z => by rw [st_bp] at z ⊢; exact st_p_01 z) ?_
            exact st_rz E hr hlk () hw (st_bz _) ((st_bp _).trans (st_p_c ⟨fun hR => Or.inr (Or.inr ⟨he, fun _ => ⟨hg, hR⟩, fun q => absurd (hf.symm.trans q) (by decide)⟩), fun hr => ((st_rl_inv hc hd hr).2.1 hf).2⟩)) dX1_holds_102
      · refine lv_iconst (v := nI 0) hx hb dX1_holds_37 (by decide) ?_
        exact st_rz E hr hlk () hw rfl (st_p0 (fun hr => he (st_rl_inv hc hd hr).1)).symm dX1_holds_38
    · refine lv_iconst (v := nI 1) hx hb dX1_holds_20 (by decide) ?_
      exact st_rz E hr hlk () hw rfl (st_p1 (Or.inr (Or.inl hd))).symm dX1_holds_21
set_option maxHeartbeats 4000000 in
set_option maxRecDepth 100000 in
/-- strike() -/
theorem mX1_strike (l : Launch) (D : va_G) (A : Nat → Prop) (h : Nat) (ad : Nat → Nat) (k : Nat → ClassId) (T : TT) (kb : Bool) (bl : Nat → Bool) (hT : st_wf T) (hM : st_MI T (kb, bl)) : Met l yX1_strike (ws_ yX1_strike cX1_strike 4 none) ({ frames := 2, cells := 0, slots := 0, locals := 44 }) (va_Pc [.ref h] (st_I D A (w1 h ad k T (kb, bl)) (ty1 k))) (va_Qv (fun (u : S1) => u.1 = true ∧ ∀ q, q < 256 → (u.2 q = true ↔ st_Sb T q)) (fun u t => st_I D A (w1 h ad k T u) (ty1 k) t) A) 0 0 A := by
  refine st_start (by decide) (Nat.le_of_ble_eq_true rfl) (fun p e s m below meth c E hr hlk hw ls hl => ?_)
  have hx := E.1
  have hb := E.2.1
  have E : st_E p s m c cX1_strike 4 _ RX1 D (ty1 k) := E
  have hl : lv_has ls 4 [(0, .ref h)] := hl
  refine lv_aload_n hx hb dX1_strike_0 rfl (lv_at hl 0 rfl) ?_
  refine st_get1 E hw rfl 5 (by decide) q153 (v := .int (st_b kb)) rfl dX1_strike_1 ?_
  refine st_ifeqb (tgt := 8) hx hb dX1_strike_4 (by decide) (fun hc => ?_) (fun hc => ?_)
  · refine lv_aload_n hx hb dX1_strike_8 rfl (lv_at hl 0 rfl) ?_
    refine lv_iconst (v := nI 1) hx hb dX1_strike_9 (by decide) ?_
    refine st_put1 E hw rfl 5 (by decide) q153 rfl .boolean (by decide +kernel) rfl rfl (Nat.le_of_ble_eq_true rfl) dX1_strike_10 (fun H locs (hw : st_W D A s.heap (w1 h ad k T (true, bl)) H locs) => ?_)
    refine lv_iconst (v := nI 0) hx hb dX1_strike_13 (by decide) ?_
    refine lv_istore_n (lv' := [(1, .int (nI 0)), (0, .ref h)]) hx hb dX1_strike_14 rfl hl (by decide) rfl (fun ls hl => ?_)
    have hw : st_W D A s.heap (w1 h ad k T (true, st_fl true bl 0)) H locs := by rw [st_fl_0]; exact hw
    refine st_loop (σ := Nat) (fun x H locs ls => st_W D A s.heap (w1 h ad k T (true, st_fl true bl x)) H locs ∧ lv_has ls 4 [(0, .ref h), (1, .int (nI x))] ∧ x ≤ 256) (fun x => 257 - x) (fun i H locs ls hJ ih => ?_) 0 ⟨hw, lv_sub hl [1, 0] rfl, by omega⟩
    have hw : st_W D A s.heap (w1 h ad k T (true, st_fl true bl i)) H locs := hJ.1
    have hl : lv_has ls 4 [(0, .ref h), (1, .int (nI i))] := hJ.2.1
    have hI : i ≤ 256 := hJ.2.2
    clear hJ
    refine lv_iload_n hx hb dX1_strike_15 rfl (lv_at hl 1 rfl) ?_
    refine lv_sipush (v := nI 256) hx hb dX1_strike_16 (by decide) ?_
    refine st_icge (tgt := 35) hx hb dX1_strike_19 (by decide) (by omega) (by omega) (fun hd => ?_) (fun hd => ?_)
    · have hw := hw.norm 6 rfl (fun j => st_b ((fun _ => true : Nat → Bool) j)) (fun j hj => by show st_b (st_fl true bl i j) = st_b true; rw [st_fl_e (by omega)])
      have hw : st_W D A s.heap (w1 h ad k T (true, fun _ => true)) H locs := hw
      refine lv_iconst (v := st_b true) hx hb dX1_strike_35 (by decide) ?_
      refine lv_istore_n (lv' := [(1, .int (st_b true)), (0, .ref h)]) hx hb dX1_strike_36 rfl hl (by decide) rfl (fun ls hl => ?_)
      refine lv_iconst (v := nI 0) hx hb dX1_strike_37 (by decide) ?_
      refine lv_istore_n (lv' := [(2, .int (nI 0)), (1, .int (st_b true)), (0, .ref h)]) hx hb dX1_strike_38 rfl hl (by decide) rfl (fun ls hl => ?_)
      refine st_loop (σ := Nat × Bool × (Nat → Bool)) (fun x H locs ls => st_W D A s.heap (w1 h ad k T (true, x.2.2)) H locs ∧ lv_has ls 4 [(0, .ref h), (1, .int (st_b x.2.1)), (2, .int (nI x.1))] ∧ st_I2 T x.1 x.2.1 x.2.2) (fun x => 258 - x.1) (fun x H locs ls hJ ih2 => ?_) (0, true, (fun _ => true)) ⟨hw, lv_sub hl [2, 1, 0] rfl, st_I2_0⟩
      obtain ⟨n, mo, bl1⟩ := x
      have hw : st_W D A s.heap (w1 h ad k T (true, bl1)) H locs := hJ.1
      have hl : lv_has ls 4 [(0, .ref h), (1, .int (st_b mo)), (2, .int (nI n))] := hJ.2.1
      have hI2 : st_I2 T n mo bl1 := hJ.2.2
      clear hJ
      refine lv_iload_n hx hb dX1_strike_39 rfl (lv_at hl 2 rfl) ?_
      refine lv_sipush (v := nI 257) hx hb dX1_strike_40 (by decide) ?_
      have h_n := hI2.1
      refine st_icge (tgt := 106) hx hb dX1_strike_43 (by decide) (by omega) (by omega) (fun he => ?_) (fun he => ?_)
      · exact st_rv E hr hlk (true, bl1) hw ⟨rfl, st_I2_e hT hI2 (Or.inl he)⟩ dX1_strike_106
      · refine lv_iload_n hx hb dX1_strike_46 rfl (lv_at hl 1 rfl) ?_
        refine st_ifeqb (tgt := 106) hx hb dX1_strike_47 (by decide) (fun hf => ?_) (fun hf => ?_)
        · exact st_rv E hr hlk (true, bl1) hw ⟨rfl, st_I2_e hT hI2 (Or.inr hf)⟩ dX1_strike_106
        · subst hf
          refine lv_iconst (v := st_b false) hx hb dX1_strike_50 (by decide) ?_
          refine lv_istore_n (lv' := [(1, .int (st_b false)), (0, .ref h), (2, .int (nI n))]) hx hb dX1_strike_51 rfl hl (by decide) rfl (fun ls hl => ?_)
          refine lv_iconst (v := nI 0) hx hb dX1_strike_52 (by decide) ?_
          refine lv_istore_n (lv' := [(3, .int (nI 0)), (1, .int (st_b false)), (0, .ref h), (2, .int (nI n))]) hx hb dX1_strike_53 rfl hl (by decide) rfl (fun ls hl => ?_)
          refine st_loop (σ := Nat × Bool × (Nat → Bool)) (fun x H locs ls => st_W D A s.heap (w1 h ad k T (true, x.2.2)) H locs ∧ lv_has ls 4 [(0, .ref h), (1, .int (st_b x.2.1)), (2, .int (nI n)), (3, .int (nI x.1))] ∧ st_I3 T bl1 x.1 x.2.1 x.2.2) (fun x => 257 - x.1) (fun x H locs ls hJ ih3 => ?_) (0, false, bl1) ⟨hw, lv_sub hl [2, 1, 3, 0] rfl, st_I3_0 hI2⟩
          obtain ⟨i3, mo2, bl2⟩ := x
          have hw : st_W D A s.heap (w1 h ad k T (true, bl2)) H locs := hJ.1
          have hl : lv_has ls 4 [(0, .ref h), (1, .int (st_b mo2)), (2, .int (nI n)), (3, .int (nI i3))] := hJ.2.1
          have hI3 : st_I3 T bl1 i3 mo2 bl2 := hJ.2.2
          clear hJ
          have h_i := hI3.1
          refine lv_iload_n hx hb dX1_strike_54 rfl (lv_at hl 3 rfl) ?_
          refine lv_sipush (v := nI 256) hx hb dX1_strike_55 (by decide) ?_
          refine st_icge (tgt := 100) hx hb dX1_strike_58 (by decide) (by omega) (by omega) (fun hg => ?_) (fun hg => ?_)
          · refine lv_iinc (v := nI (n + 1)) (lv' := [(2, .int (nI (n + 1))), (0, .ref h), (1, .int (st_b mo2)), (3, .int (nI i3))]) hx hb dX1_strike_100 hl (k := 2) rfl (st_inc _) (by decide) rfl (fun ls hl => ?_)
            refine lv_goto (tgt := 39) hx hb dX1_strike_103 (by decide) ?_
            exact ih2 (n + 1, mo2, bl2) _ _ _ ⟨hw, lv_sub hl [1, 2, 0] rfl, st_I2_s hI2 hI3 hg he⟩ (by show 258 - (n + 1) < 258 - n; omega)
          · refine lv_aload_n hx hb dX1_strike_61 rfl (lv_at hl 0 rfl) ?_
            refine st_get1 E hw rfl 6 (by decide) q154 (v := .ref (ad 5)) rfl dX1_strike_62 ?_
            refine lv_iload_n hx hb dX1_strike_65 rfl (lv_at hl 3 rfl) ?_
            refine st_zald E hw 6 1 rfl rfl (i := i3) (by omega) (by decide) (v := st_b (bl2 i3)) rfl dX1_strike_66 ?_
            refine st_ifeqb (tgt := 94) hx hb dX1_strike_67 (by decide) (fun hj => ?_) (fun hj => ?_)
            · refine lv_iinc (v := nI (i3 + 1)) (lv' := [(3, .int (nI (i3 + 1))), (0, .ref h), (1, .int (st_b mo2)), (2, .int (nI n))]) hx hb dX1_strike_94 hl (k := 3) rfl (st_inc _) (by decide) rfl (fun ls hl => ?_)
              refine lv_goto (tgt := 54) hx hb dX1_strike_97 (by decide) ?_
              exact ih3 (i3 + 1, mo2, bl2) _ _ _ ⟨hw, lv_sub hl [1, 2, 3, 0] rfl, st_I3_k hI3 hg (fun z => absurd (hj.symm.trans z) (by decide))⟩ (by show 257 - (i3 + 1) < 257 - i3; omega)
            · refine lv_aload_n hx hb dX1_strike_70 rfl (lv_at hl 0 rfl) ?_
              refine lv_iload_n hx hb dX1_strike_71 rfl (lv_at hl 3 rfl) ?_
              refine lv_bipush (v := nI 16) hx hb dX1_strike_72 (by decide) ?_
              refine st_idiv hx hb (by omega) (by decide) (by decide) dX1_strike_74 ?_
              refine lv_iload_n hx hb dX1_strike_75 rfl (lv_at hl 3 rfl) ?_
              refine lv_bipush (v := nI 16) hx hb dX1_strike_76 (by decide) ?_
              refine st_irem hx hb (by omega) (by decide) (by decide) dX1_strike_78 ?_
              refine st_callT (As := [.int (nI (i3 / 16)), .int (nI (i3 % 16))]) (rest := []) E hw (mX1_holds l D A h ad k T true bl2 (i3 / 16) (i3 % 16) (by omega) (by omega) hT) (lw_V q206 q208 qs13 q17 q209) hdX1_holds rfl ⟨rfl, rfl⟩ ⟨Nat.le_of_ble_eq_true rfl, Nat.le_of_ble_eq_true rfl⟩ (ci := 1) rfl rfl rfl hl.1 rfl (Nat.le_of_ble_eq_true rfl) dX1_strike_79 (fun r u H locs hp hw => ?_)
              subst hp
              have hw : st_W D A s.heap (w1 h ad k T (true, bl2)) H locs := hw
              refine st_ifnep (tgt := 94) hx hb dX1_strike_82 (by decide) (fun hk => ?_) (fun hk => ?_)
              · refine lv_iinc (v := nI (i3 + 1)) (lv' := [(3, .int (nI (i3 + 1))), (0, .ref h), (1, .int (st_b mo2)), (2, .int (nI n))]) hx hb dX1_strike_94 hl (k := 3) rfl (st_inc _) (by decide) rfl (fun ls hl => ?_)
                refine lv_goto (tgt := 54) hx hb dX1_strike_97 (by decide) ?_
                exact ih3 (i3 + 1, mo2, bl2) _ _ _ ⟨hw, lv_sub hl [1, 2, 3, 0] rfl, st_I3_k hI3 hg (fun _ => hk)⟩ (by show 257 - (i3 + 1) < 257 - i3; omega)
              · refine lv_aload_n hx hb dX1_strike_85 rfl (lv_at hl 0 rfl) ?_
                refine st_get1 E hw rfl 6 (by decide) q154 (v := .ref (ad 5)) rfl dX1_strike_86 ?_
                refine lv_iload_n hx hb dX1_strike_89 rfl (lv_at hl 3 rfl) ?_
                refine lv_iconst (v := nI 0) hx hb dX1_strike_90 (by decide) ?_
                refine st_zast E hw 6 1 rfl rfl (i := i3) (by omega) (by decide) (st_b false) (st_nb false) (fun j => st_b ((va_up bl2 i3 false) j)) (fun j => st_up st_b _ _ false j) dX1_strike_91 (fun H locs (hw : st_W D A s.heap (w1 h ad k T (true, va_up bl2 i3 false)) H locs) => ?_)
                refine lv_iconst (v := st_b true) hx hb dX1_strike_92 (by decide) ?_
                refine lv_istore_n (lv' := [(1, .int (st_b true)), (0, .ref h), (2, .int (nI n)), (3, .int (nI i3))]) hx hb dX1_strike_93 rfl hl (by decide) rfl (fun ls hl => ?_)
                refine lv_iinc (v := nI (i3 + 1)) (lv' := [(3, .int (nI (i3 + 1))), (1, .int (st_b true)), (0, .ref h), (2, .int (nI n))]) hx hb dX1_strike_94 hl (k := 3) rfl (st_inc _) (by decide) rfl (fun ls hl => ?_)
                refine lv_goto (tgt := 54) hx hb dX1_strike_97 (by decide) ?_
                exact ih3 (i3 + 1, true, va_up bl2 i3 false) _ _ _ ⟨hw, lv_sub hl [2, 1, 3, 0] rfl, st_I3_x hI3 hg hj hk⟩ (by show 257 - (i3 + 1) < 257 - i3; omega)
    · refine lv_aload_n hx hb dX1_strike_22 rfl (lv_at hl 0 rfl) ?_
      refine st_get1 E hw rfl 6 (by decide) q154 (v := .ref (ad 5)) rfl dX1_strike_23 ?_
      refine lv_iload_n hx hb dX1_strike_26 rfl (lv_at hl 1 rfl) ?_
      refine lv_iconst (v := nI 1) hx hb dX1_strike_27 (by decide) ?_
      refine st_zast E hw 6 1 rfl rfl (i := i) (by omega) (by decide) (st_b true) (st_nb true) (fun j => st_b ((st_fl true bl (i + 1)) j)) (fun j => st_fl_s st_b j) dX1_strike_28 (fun H locs (hw : st_W D A s.heap (w1 h ad k T (true, st_fl true bl (i + 1))) H locs) => ?_)
      refine lv_iinc (v := nI (i + 1)) (lv' := [(1, .int (nI (i + 1))), (0, .ref h)]) hx hb dX1_strike_29 hl (k := 1) rfl (st_inc _) (by decide) rfl (fun ls hl => ?_)
      refine lv_goto (tgt := 15) hx hb dX1_strike_32 (by decide) ?_
      exact ih (i + 1) _ _ _ ⟨hw, lv_sub hl [1, 0] rfl, by omega⟩ (by show 257 - (i + 1) < 257 - i; omega)
  · exact st_rv E hr hlk (kb, bl) hw ⟨hc, hM hc⟩ dX1_strike_7
set_option maxHeartbeats 4000000 in
set_option maxRecDepth 100000 in
/-- subtype(x, y) -/
theorem mX1_subtype (l : Launch) (D : va_G) (A : Nat → Prop) (h : Nat) (ad : Nat → Nat) (k : Nat → ClassId) (T : TT) (kb : Bool) (bl : Nat → Bool) (x y : Int32) (hT : st_wf T) (hM : st_MI T (kb, bl)) : Met l yX1_subtype (ws_ yX1_subtype cX1_subtype 3 (some .boolean)) ({ frames := 3, cells := 0, slots := 0, locals := 67 }) (va_Pc [.ref h, .int (x), .int (y)] (st_I D A (w1 h ad k T (kb, bl)) (ty1 k))) (va_Qi (fun (r : Int32) (u : S1) => r = st_suR T x y ∧ st_MI T u) (fun u t => st_I D A (w1 h ad k T u) (ty1 k) t) A) 0 0 A := by
  refine st_start (by decide) (Nat.le_of_ble_eq_true rfl) (fun p e s m below meth c E hr hlk hw ls hl => ?_)
  have hx := E.1
  have hb := E.2.1
  have E : st_E p s m c cX1_subtype 3 _ RX1 D (ty1 k) := E
  have hl : lv_has ls 3 [(0, .ref h), (1, .int (x)), (2, .int (y))] := hl
  refine lv_aload_n hx hb dX1_subtype_0 rfl (lv_at hl 0 rfl) ?_
  refine lv_iload_n hx hb dX1_subtype_1 rfl (lv_at hl 1 rfl) ?_
  refine st_callT (As := [.int (x)]) (rest := []) E hw (mX1_bad l D A h ad k T kb bl x) (lw_V q174 q176 qs9 q17 q177) hdX1_bad rfl ⟨rfl, rfl⟩ ⟨Nat.le_of_ble_eq_true rfl, Nat.le_of_ble_eq_true rfl⟩ (ci := 1) rfl rfl rfl hl.1 rfl (Nat.le_of_ble_eq_true rfl) dX1_subtype_2 (fun r u H locs hp hw => ?_)
  subst hp
  have hw : st_W D A s.heap (w1 h ad k T (kb, bl)) H locs := hw
  refine st_ifnep (tgt := 16) hx hb dX1_subtype_5 (by decide) (fun hc => ?_) (fun hc => ?_)
  · refine lv_iconst (v := nI 0) hx hb dX1_subtype_16 (by decide) ?_
    exact st_rz E hr hlk (kb, bl) hw rfl ⟨by simp only [st_suR, hc]; rfl, hM⟩ dX1_subtype_17
  · obtain ⟨a, h_a, rfl⟩ := st_ty_s hc
    refine lv_aload_n hx hb dX1_subtype_8 rfl (lv_at hl 0 rfl) ?_
    refine lv_iload_n hx hb dX1_subtype_9 rfl (lv_at hl 2 rfl) ?_
    refine st_callT (As := [.int (y)]) (rest := []) E hw (mX1_bad l D A h ad k T kb bl y) (lw_V q174 q176 qs9 q17 q177) hdX1_bad rfl ⟨rfl, rfl⟩ ⟨Nat.le_of_ble_eq_true rfl, Nat.le_of_ble_eq_true rfl⟩ (ci := 1) rfl rfl rfl hl.1 rfl (Nat.le_of_ble_eq_true rfl) dX1_subtype_10 (fun r u H locs hp hw => ?_)
    subst hp
    have hw : st_W D A s.heap (w1 h ad k T (kb, bl)) H locs := hw
    refine st_ifeqp (tgt := 18) hx hb dX1_subtype_13 (by decide) (fun hd => ?_) (fun hd => ?_)
    · obtain ⟨b, h_b, rfl⟩ := st_ty_s hd
      refine lv_aload_n hx hb dX1_subtype_18 rfl (lv_at hl 0 rfl) ?_
      refine st_callTv (As := []) (rest := []) E hw (mX1_strike l D A h ad k T kb bl hT hM) (lw_V q202 q204 qs12 q17 q205) hdX1_strike rfl ⟨rfl, rfl⟩ ⟨Nat.le_of_ble_eq_true rfl, Nat.le_of_ble_eq_true rfl⟩ (ci := 1) rfl rfl rfl hl.1 rfl (Nat.le_of_ble_eq_true rfl) dX1_subtype_19 (fun u H locs hp hw => ?_)
      obtain ⟨kb1, bl1⟩ := u
      obtain ⟨p1, p2⟩ := hp
      have hw : st_W D A s.heap (w1 h ad k T (kb1, bl1)) H locs := hw
      refine lv_aload_n hx hb dX1_subtype_22 rfl (lv_at hl 0 rfl) ?_
      refine st_get1 E hw rfl 6 (by decide) q154 (v := .ref (ad 5)) rfl dX1_subtype_23 ?_
      refine lv_iload_n hx hb dX1_subtype_26 rfl (lv_at hl 1 rfl) ?_
      refine lv_bipush (v := nI 16) hx hb dX1_subtype_27 (by decide) ?_
      refine st_imul hx hb dX1_subtype_29 ?_
      refine lv_iload_n hx hb dX1_subtype_30 rfl (lv_at hl 2 rfl) ?_
      refine st_iadd hx hb dX1_subtype_31 ?_
      refine st_zald E hw 6 1 rfl rfl (i := a * 16 + b) (by omega) (by decide) (v := st_b (bl1 (a * 16 + b))) rfl dX1_subtype_32 ?_
      exact st_rz E hr hlk (kb1, bl1) hw (st_bz _) ⟨by rw [st_suR_n h_a h_b, st_bp]; exact st_p_c (p2 _ (by omega)), fun _ => p2⟩ dX1_subtype_33
    · refine lv_iconst (v := nI 0) hx hb dX1_subtype_16 (by decide) ?_
      exact st_rz E hr hlk (kb, bl) hw rfl ⟨by simp only [st_suR, st_ty_n h_a, hd]; rfl, hM⟩ dX1_subtype_17
set_option maxHeartbeats 4000000 in
set_option maxRecDepth 100000 in
/-- equivalent(x, y) -/
theorem mX1_equivalent (l : Launch) (D : va_G) (A : Nat → Prop) (h : Nat) (ad : Nat → Nat) (k : Nat → ClassId) (T : TT) (kb : Bool) (bl : Nat → Bool) (x y : Int32) (hT : st_wf T) (hM : st_MI T (kb, bl)) : Met l yX1_equivalent (ws_ yX1_equivalent cX1_equivalent 3 (some .boolean)) ({ frames := 4, cells := 0, slots := 0, locals := 89 }) (va_Pc [.ref h, .int (x), .int (y)] (st_I D A (w1 h ad k T (kb, bl)) (ty1 k))) (va_Qi (fun (r : Int32) (u : S1) => r = st_eqR T x y ∧ st_MI T u) (fun u t => st_I D A (w1 h ad k T u) (ty1 k) t) A) 0 0 A := by
  refine st_start (by decide) (Nat.le_of_ble_eq_true rfl) (fun p e s m below meth c E hr hlk hw ls hl => ?_)
  have hx := E.1
  have hb := E.2.1
  have E : st_E p s m c cX1_equivalent 3 _ RX1 D (ty1 k) := E
  have hl : lv_has ls 3 [(0, .ref h), (1, .int (x)), (2, .int (y))] := hl
  refine lv_aload_n hx hb dX1_equivalent_0 rfl (lv_at hl 0 rfl) ?_
  refine lv_iload_n hx hb dX1_equivalent_1 rfl (lv_at hl 1 rfl) ?_
  refine lv_iload_n hx hb dX1_equivalent_2 rfl (lv_at hl 2 rfl) ?_
  refine st_callT (As := [.int (x), .int (y)]) (rest := []) E hw (mX1_subtype l D A h ad k T kb bl x y hT hM) (lw_V q218 q199 q200 q17 q201) hdX1_subtype rfl ⟨rfl, rfl⟩ ⟨Nat.le_of_ble_eq_true rfl, Nat.le_of_ble_eq_true rfl⟩ (ci := 1) rfl rfl rfl hl.1 rfl (Nat.le_of_ble_eq_true rfl) dX1_equivalent_3 (fun r u H locs hp hw => ?_)
  obtain ⟨kb1, bl1⟩ := u
  obtain ⟨rfl, p1⟩ := hp
  have hw : st_W D A s.heap (w1 h ad k T (kb1, bl1)) H locs := hw
  refine lv_if_eq (tgt := 22) hx hb dX1_equivalent_6 (by decide) (fun hc => ?_) (fun hc => ?_)
  · refine lv_iconst (v := nI 0) hx hb dX1_equivalent_22 (by decide) ?_
    exact st_rz E hr hlk (kb1, bl1) hw rfl ⟨(st_eq0 hc).symm, p1⟩ dX1_equivalent_23
  · refine lv_aload_n hx hb dX1_equivalent_9 rfl (lv_at hl 0 rfl) ?_
    refine lv_iload_n hx hb dX1_equivalent_10 rfl (lv_at hl 2 rfl) ?_
    refine lv_iload_n hx hb dX1_equivalent_11 rfl (lv_at hl 1 rfl) ?_
    refine st_callT (As := [.int (y), .int (x)]) (rest := []) E hw (mX1_subtype l D A h ad k T kb1 bl1 y x hT p1) (lw_V q218 q199 q200 q17 q201) hdX1_subtype rfl ⟨rfl, rfl⟩ ⟨Nat.le_of_ble_eq_true rfl, Nat.le_of_ble_eq_true rfl⟩ (ci := 1) rfl rfl rfl hl.1 rfl (Nat.le_of_ble_eq_true rfl) dX1_equivalent_12 (fun r u H locs hp hw => ?_)
    obtain ⟨kb2, bl2⟩ := u
    obtain ⟨rfl, p2⟩ := hp
    have hw : st_W D A s.heap (w1 h ad k T (kb2, bl2)) H locs := hw
    refine st_diaeq (v := (st_suR T y x)) hx hb dX1_equivalent_15 dX1_equivalent_18 dX1_equivalent_19 dX1_equivalent_22 (id) (fun z => (st_su01 T y x).resolve_left z) ?_
    exact st_rz E hr hlk (kb2, bl2) hw (st_suz T y x) ⟨(st_eq1 hc).symm, p2⟩ dX1_equivalent_23
set_option maxHeartbeats 4000000 in
set_option maxRecDepth 100000 in
/-- subtypes(x) -/
theorem mX1_subtypes (l : Launch) (D : va_G) (A : Nat → Prop) (h : Nat) (ad : Nat → Nat) (k : Nat → ClassId) (T : TT) (kb : Bool) (bl : Nat → Bool) (x : Int32) (hT : st_wf T) (hM : st_MI T (kb, bl)) : Met l yX1_subtypes (ws_ yX1_subtypes cX1_subtypes 4 (some .int)) ({ frames := 4, cells := 0, slots := 0, locals := 89 }) (va_Pc [.ref h, .int (x)] (st_I D A (w1 h ad k T (kb, bl)) (ty1 k))) (va_Qi (fun (r : Int32) (u : S1) => r = st_sbR T x ∧ st_MI T u) (fun u t => st_I D A (w1 h ad k T u) (ty1 k) t) A) 0 0 A := by
  refine st_start (by decide) (Nat.le_of_ble_eq_true rfl) (fun p e s m below meth c E hr hlk hw ls hl => ?_)
  have hx := E.1
  have hb := E.2.1
  have E : st_E p s m c cX1_subtypes 4 _ RX1 D (ty1 k) := E
  have hl : lv_has ls 4 [(0, .ref h), (1, .int (x))] := hl
  refine lv_aload_n hx hb dX1_subtypes_0 rfl (lv_at hl 0 rfl) ?_
  refine lv_iload_n hx hb dX1_subtypes_1 rfl (lv_at hl 1 rfl) ?_
  refine st_callT (As := [.int (x)]) (rest := []) E hw (mX1_bad l D A h ad k T kb bl x) (lw_V q174 q176 qs9 q17 q177) hdX1_bad rfl ⟨rfl, rfl⟩ ⟨Nat.le_of_ble_eq_true rfl, Nat.le_of_ble_eq_true rfl⟩ (ci := 1) rfl rfl rfl hl.1 rfl (Nat.le_of_ble_eq_true rfl) dX1_subtypes_2 (fun r u H locs hp hw => ?_)
  subst hp
  have hw : st_W D A s.heap (w1 h ad k T (kb, bl)) H locs := hw
  refine st_ifeqp (tgt := 10) hx hb dX1_subtypes_5 (by decide) (fun hc => ?_) (fun hc => ?_)
  · obtain ⟨a, h_a, rfl⟩ := st_ty_s hc
    refine lv_iconst (v := nI 0) hx hb dX1_subtypes_10 (by decide) ?_
    refine lv_istore_n (lv' := [(2, .int (nI 0)), (0, .ref h), (1, .int (nI a))]) hx hb dX1_subtypes_11 rfl hl (by decide) rfl (fun ls hl => ?_)
    refine lv_iconst (v := nI 0) hx hb dX1_subtypes_12 (by decide) ?_
    refine lv_istore_n (lv' := [(3, .int (nI 0)), (2, .int (nI 0)), (0, .ref h), (1, .int (nI a))]) hx hb dX1_subtypes_13 rfl hl (by decide) rfl (fun ls hl => ?_)
    refine st_loop (σ := Nat × Bool × (Nat → Bool)) (fun x H locs ls => st_W D A s.heap (w1 h ad k T (x.2.1, x.2.2)) H locs ∧ lv_has ls 4 [(0, .ref h), (1, .int (nI a)), (2, .int ((st_msk (fun s => st_Sb T (s * 16 + a)) x.1))), (3, .int (nI x.1))] ∧ (x.1 ≤ 16 ∧ st_MI T (x.2.1, x.2.2))) (fun x => 17 - x.1) (fun x H locs ls hJ ih => ?_) (0, kb, bl) ⟨hw, lv_sub hl [2, 3, 1, 0] rfl, ⟨by omega, hM⟩⟩
    obtain ⟨i, kb1, bl1⟩ := x
    have hw : st_W D A s.heap (w1 h ad k T (kb1, bl1)) H locs := hJ.1
    have hl : lv_has ls 4 [(0, .ref h), (1, .int (nI a)), (2, .int ((st_msk (fun s => st_Sb T (s * 16 + a)) i))), (3, .int (nI i))] := hJ.2.1
    have hI : (i ≤ 16 ∧ st_MI T (kb1, bl1)) := hJ.2.2
    clear hJ
    obtain ⟨i1, i2⟩ := hI
    refine lv_iload_n hx hb dX1_subtypes_14 rfl (lv_at hl 3 rfl) ?_
    refine lv_bipush (v := nI 16) hx hb dX1_subtypes_15 (by decide) ?_
    refine st_icge (tgt := 41) hx hb dX1_subtypes_17 (by decide) (by omega) (by omega) (fun hd => ?_) (fun hd => ?_)
    · obtain rfl : i = 16 := by omega
      refine lv_iload_n hx hb dX1_subtypes_41 rfl (lv_at hl 2 rfl) ?_
      exact st_ri E hr hlk (kb1, bl1) hw ⟨by simp only [st_sbR, st_ty_n h_a], i2⟩ dX1_subtypes_42
    · refine lv_aload_n hx hb dX1_subtypes_20 rfl (lv_at hl 0 rfl) ?_
      refine lv_iload_n hx hb dX1_subtypes_21 rfl (lv_at hl 3 rfl) ?_
      refine lv_iload_n hx hb dX1_subtypes_22 rfl (lv_at hl 1 rfl) ?_
      refine st_callT (As := [.int (nI i), .int (nI a)]) (rest := []) E hw (mX1_subtype l D A h ad k T kb1 bl1 (nI i) (nI a) hT i2) (lw_V q218 q199 q200 q17 q201) hdX1_subtype rfl ⟨rfl, rfl⟩ ⟨Nat.le_of_ble_eq_true rfl, Nat.le_of_ble_eq_true rfl⟩ (ci := 1) rfl rfl rfl hl.1 rfl (Nat.le_of_ble_eq_true rfl) dX1_subtypes_23 (fun r u H locs hp hw => ?_)
      obtain ⟨kb2, bl2⟩ := u
      obtain ⟨rfl, p2⟩ := hp
      have hw : st_W D A s.heap (w1 h ad k T (kb2, bl2)) H locs := hw
      refine st_top (y := st_p (st_Sb T (i * 16 + a))) (st_suR_n hd h_a) ?_
      refine st_ifeqp (tgt := 35) hx hb dX1_subtypes_26 (by decide) (fun he => ?_) (fun he => ?_)
      · have hl : lv_has ls 4 [(0, .ref h), (1, .int (nI a)), (2, .int ((st_msk (fun s => st_Sb T (s * 16 + a)) (i + 1)))), (3, .int (nI i))] := by rw [st_msk_f (f := (fun s => st_Sb T (s * 16 + a))) (n := i) he]; exact hl
        refine lv_iinc (v := nI (i + 1)) (lv' := [(3, .int (nI (i + 1))), (0, .ref h), (1, .int (nI a)), (2, .int ((st_msk (fun s => st_Sb T (s * 16 + a)) (i + 1))))]) hx hb dX1_subtypes_35 hl (k := 3) rfl (st_inc _) (by decide) rfl (fun ls hl => ?_)
        refine lv_goto (tgt := 14) hx hb dX1_subtypes_38 (by decide) ?_
        exact ih (i + 1, kb2, bl2) _ _ _ ⟨hw, lv_sub hl [1, 2, 3, 0] rfl, ⟨by omega, p2⟩⟩ (by show 17 - (i + 1) < 17 - i; omega)
      · refine lv_iload_n hx hb dX1_subtypes_29 rfl (lv_at hl 2 rfl) ?_
        refine lv_iconst (v := nI 1) hx hb dX1_subtypes_30 (by decide) ?_
        refine lv_iload_n hx hb dX1_subtypes_31 rfl (lv_at hl 3 rfl) ?_
        refine lv_ishl hx hb dX1_subtypes_32 ?_
        refine lv_ior hx hb dX1_subtypes_33 ?_
        refine lv_istore_n (lv' := [(2, .int (((st_msk (fun s => st_Sb T (s * 16 + a)) i) ||| ((nI 1 <<< (nI i &&& 31)))))), (0, .ref h), (1, .int (nI a)), (3, .int (nI i))]) hx hb dX1_subtypes_34 rfl hl (by decide) rfl (fun ls hl => ?_)
        have hl : lv_has ls 4 [(2, .int ((st_msk (fun s => st_Sb T (s * 16 + a)) (i + 1)))), (0, .ref h), (1, .int (nI a)), (3, .int (nI i))] := by rw [st_msk_t (f := (fun s => st_Sb T (s * 16 + a))) (n := i) he]; exact hl
        refine lv_iinc (v := nI (i + 1)) (lv' := [(3, .int (nI (i + 1))), (2, .int ((st_msk (fun s => st_Sb T (s * 16 + a)) (i + 1)))), (0, .ref h), (1, .int (nI a))]) hx hb dX1_subtypes_35 hl (k := 3) rfl (st_inc _) (by decide) rfl (fun ls hl => ?_)
        refine lv_goto (tgt := 14) hx hb dX1_subtypes_38 (by decide) ?_
        exact ih (i + 1, kb2, bl2) _ _ _ ⟨hw, lv_sub hl [2, 3, 1, 0] rfl, ⟨by omega, p2⟩⟩ (by show 17 - (i + 1) < 17 - i; omega)
  · refine lv_iconst (v := st_o none) hx hb dX1_subtypes_8 (by decide) ?_
    exact st_ri E hr hlk (kb, bl) hw ⟨by simp only [st_sbR, hc]; rfl, hM⟩ dX1_subtypes_9
set_option maxHeartbeats 4000000 in
set_option maxRecDepth 100000 in
/-- kinds() -/
theorem mX1_kinds (l : Launch) (D : va_G) (A : Nat → Prop) (h : Nat) (ad : Nat → Nat) (k : Nat → ClassId) (T : TT) (kb : Bool) (bl : Nat → Bool) (hT : st_wf T) (hM : st_MI T (kb, bl)) : Met l yX1_kinds (ws_ yX1_kinds cX1_kinds 5 (some .int)) ({ frames := 5, cells := 0, slots := 0, locals := 111 }) (va_Pc [.ref h] (st_I D A (w1 h ad k T (kb, bl)) (ty1 k))) (va_Qi (fun (r : Int32) (u : S1) => r = st_kdR T ∧ st_MI T u) (fun u t => st_I D A (w1 h ad k T u) (ty1 k) t) A) 0 0 A := by
  refine st_start (by decide) (Nat.le_of_ble_eq_true rfl) (fun p e s m below meth c E hr hlk hw ls hl => ?_)
  have hx := E.1
  have hb := E.2.1
  have E : st_E p s m c cX1_kinds 5 _ RX1 D (ty1 k) := E
  have hl : lv_has ls 5 [(0, .ref h)] := hl
  refine lv_iconst (v := nI 0) hx hb dX1_kinds_0 (by decide) ?_
  refine lv_istore_n (lv' := [(1, .int (nI 0)), (0, .ref h)]) hx hb dX1_kinds_1 rfl hl (by decide) rfl (fun ls hl => ?_)
  refine lv_iconst (v := nI 0) hx hb dX1_kinds_2 (by decide) ?_
  refine lv_istore_n (lv' := [(2, .int (nI 0)), (1, .int (nI 0)), (0, .ref h)]) hx hb dX1_kinds_3 rfl hl (by decide) rfl (fun ls hl => ?_)
  refine st_loop (σ := Nat × Bool × (Nat → Bool)) (fun x H locs ls => st_W D A s.heap (w1 h ad k T (x.2.1, x.2.2)) H locs ∧ lv_has ls 5 [(0, .ref h), (1, .int (nI (st_cn (fun t => st_nw T t t) x.1))), (2, .int (nI x.1))] ∧ (x.1 ≤ 16 ∧ st_MI T (x.2.1, x.2.2))) (fun x => 17 - x.1) (fun x H locs ls hJ ih => ?_) (0, kb, bl) ⟨hw, lv_sub hl [2, 1, 0] rfl, ⟨by omega, hM⟩⟩
  obtain ⟨t, kb1, bl1⟩ := x
  have hw : st_W D A s.heap (w1 h ad k T (kb1, bl1)) H locs := hJ.1
  have hl : lv_has ls 5 [(0, .ref h), (1, .int (nI (st_cn (fun t => st_nw T t t) t))), (2, .int (nI t))] := hJ.2.1
  have hI : (t ≤ 16 ∧ st_MI T (kb1, bl1)) := hJ.2.2
  clear hJ
  obtain ⟨i1, i2⟩ := hI
  refine lv_iload_n hx hb dX1_kinds_4 rfl (lv_at hl 2 rfl) ?_
  refine lv_bipush (v := nI 16) hx hb dX1_kinds_5 (by decide) ?_
  refine st_icge (tgt := 52) hx hb dX1_kinds_7 (by decide) (by omega) (by omega) (fun hd => ?_) (fun hd => ?_)
  · obtain rfl : t = 16 := by omega
    refine lv_iload_n hx hb dX1_kinds_52 rfl (lv_at hl 1 rfl) ?_
    exact st_ri E hr hlk (kb1, bl1) hw ⟨rfl, i2⟩ dX1_kinds_53
  · refine lv_iconst (v := nI 1) hx hb dX1_kinds_10 (by decide) ?_
    refine st_top (y := st_p (st_nw T t 0)) ((st_p1 (fun s hs => absurd hs (Nat.not_lt_zero s))).symm) ?_
    refine lv_istore_n (lv' := [(3, .int (st_p (st_nw T t 0))), (0, .ref h), (1, .int (nI (st_cn (fun t => st_nw T t t) t))), (2, .int (nI t))]) hx hb dX1_kinds_11 rfl hl (by decide) rfl (fun ls hl => ?_)
    refine lv_iconst (v := nI 0) hx hb dX1_kinds_12 (by decide) ?_
    refine lv_istore (lv' := [(4, .int (nI 0)), (3, .int (st_p (st_nw T t 0))), (0, .ref h), (1, .int (nI (st_cn (fun t => st_nw T t t) t))), (2, .int (nI t))]) hx hb dX1_kinds_13 hl (by decide) rfl (fun ls hl => ?_)
    refine st_loop (σ := Nat × Bool × (Nat → Bool)) (fun x H locs ls => st_W D A s.heap (w1 h ad k T (x.2.1, x.2.2)) H locs ∧ lv_has ls 5 [(0, .ref h), (1, .int (nI (st_cn (fun t => st_nw T t t) t))), (2, .int (nI t)), (3, .int (st_p (st_nw T t x.1))), (4, .int (nI x.1))] ∧ (x.1 ≤ t ∧ st_MI T (x.2.1, x.2.2))) (fun x => 17 - x.1) (fun x H locs ls hJ ih2 => ?_) (0, kb1, bl1) ⟨hw, lv_sub hl [2, 3, 4, 1, 0] rfl, ⟨Nat.zero_le t, i2⟩⟩
    obtain ⟨q, kb2, bl2⟩ := x
    have hw : st_W D A s.heap (w1 h ad k T (kb2, bl2)) H locs := hJ.1
    have hl : lv_has ls 5 [(0, .ref h), (1, .int (nI (st_cn (fun t => st_nw T t t) t))), (2, .int (nI t)), (3, .int (st_p (st_nw T t q))), (4, .int (nI q))] := hJ.2.1
    have hI2 : (q ≤ t ∧ st_MI T (kb2, bl2)) := hJ.2.2
    clear hJ
    obtain ⟨j1, j2⟩ := hI2
    refine lv_iload hx hb dX1_kinds_15 (lv_at hl 4 rfl) ?_
    refine lv_iload_n hx hb dX1_kinds_17 rfl (lv_at hl 2 rfl) ?_
    refine st_icge (tgt := 39) hx hb dX1_kinds_18 (by decide) (by omega) (by omega) (fun he => ?_) (fun he => ?_)
    · have e2 : q = t := by omega
      refine lv_iload_n hx hb dX1_kinds_39 rfl (lv_at hl 3 rfl) ?_
      refine st_ifeqp (tgt := 46) hx hb dX1_kinds_40 (by decide) (fun hf => ?_) (fun hf => ?_)
      · have hl : lv_has ls 5 [(0, .ref h), (1, .int (nI (st_cn (fun t => st_nw T t t) (t + 1)))), (2, .int (nI t)), (3, .int (st_p (st_nw T t q))), (4, .int (nI q))] := by rw [st_cn_f (f := (fun t => st_nw T t t)) (n := t) (by rw [e2] at hf; exact hf)]; exact hl
        refine lv_iinc (v := nI (t + 1)) (lv' := [(2, .int (nI (t + 1))), (0, .ref h), (1, .int (nI (st_cn (fun t => st_nw T t t) (t + 1)))), (3, .int (st_p (st_nw T t q))), (4, .int (nI q))]) hx hb dX1_kinds_46 hl (k := 2) rfl (st_inc _) (by decide) rfl (fun ls hl => ?_)
        refine lv_goto (tgt := 4) hx hb dX1_kinds_49 (by decide) ?_
        exact ih (t + 1, kb2, bl2) _ _ _ ⟨hw, lv_sub hl [1, 2, 0] rfl, ⟨by omega, j2⟩⟩ (by show 17 - (t + 1) < 17 - t; omega)
      · refine lv_iinc (v := nI (st_cn (fun t => st_nw T t t) t + 1)) (lv' := [(1, .int (nI (st_cn (fun t => st_nw T t t) t + 1))), (0, .ref h), (2, .int (nI t)), (3, .int (st_p (st_nw T t q))), (4, .int (nI q))]) hx hb dX1_kinds_43 hl (k := 1) rfl (st_inc _) (by decide) rfl (fun ls hl => ?_)
        have hl : lv_has ls 5 [(1, .int (nI (st_cn (fun t => st_nw T t t) (t + 1)))), (0, .ref h), (2, .int (nI t)), (3, .int (st_p (st_nw T t q))), (4, .int (nI q))] := by rw [st_cn_t (f := (fun t => st_nw T t t)) (n := t) (by rw [e2] at hf; exact hf)]; exact hl
        refine lv_iinc (v := nI (t + 1)) (lv' := [(2, .int (nI (t + 1))), (1, .int (nI (st_cn (fun t => st_nw T t t) (t + 1)))), (0, .ref h), (3, .int (st_p (st_nw T t q))), (4, .int (nI q))]) hx hb dX1_kinds_46 hl (k := 2) rfl (st_inc _) (by decide) rfl (fun ls hl => ?_)
        refine lv_goto (tgt := 4) hx hb dX1_kinds_49 (by decide) ?_
        exact ih (t + 1, kb2, bl2) _ _ _ ⟨hw, lv_sub hl [2, 1, 0] rfl, ⟨by omega, j2⟩⟩ (by show 17 - (t + 1) < 17 - t; omega)
    · refine lv_aload_n hx hb dX1_kinds_21 rfl (lv_at hl 0 rfl) ?_
      refine lv_iload hx hb dX1_kinds_22 (lv_at hl 4 rfl) ?_
      refine lv_iload_n hx hb dX1_kinds_24 rfl (lv_at hl 2 rfl) ?_
      refine st_callT (As := [.int (nI q), .int (nI t)]) (rest := []) E hw (mX1_equivalent l D A h ad k T kb2 bl2 (nI q) (nI t) hT j2) (lw_V q227 q215 q216 q17 q217) hdX1_equivalent rfl ⟨rfl, rfl⟩ ⟨Nat.le_of_ble_eq_true rfl, Nat.le_of_ble_eq_true rfl⟩ (ci := 1) rfl rfl rfl hl.1 rfl (Nat.le_of_ble_eq_true rfl) dX1_kinds_25 (fun r u H locs hp hw => ?_)
      obtain ⟨kb3, bl3⟩ := u
      obtain ⟨rfl, p3⟩ := hp
      have hw : st_W D A s.heap (w1 h ad k T (kb3, bl3)) H locs := hw
      refine st_top (y := st_p (st_eq T q t)) (st_eqR_n (by omega) hd) ?_
      refine st_ifeqp (tgt := 33) hx hb dX1_kinds_28 (by decide) (fun hg => ?_) (fun hg => ?_)
      · have hl : lv_has ls 5 [(0, .ref h), (1, .int (nI (st_cn (fun t => st_nw T t t) t))), (2, .int (nI t)), (3, .int (st_p (st_nw T t (q + 1)))), (4, .int (nI q))] := by rw [st_p_c (st_nw_f hg)]; exact hl
        refine lv_iinc (v := nI (q + 1)) (lv' := [(4, .int (nI (q + 1))), (0, .ref h), (1, .int (nI (st_cn (fun t => st_nw T t t) t))), (2, .int (nI t)), (3, .int (st_p (st_nw T t (q + 1))))]) hx hb dX1_kinds_33 hl (k := 4) rfl (st_inc _) (by decide) rfl (fun ls hl => ?_)
        refine lv_goto (tgt := 15) hx hb dX1_kinds_36 (by decide) ?_
        exact ih2 (q + 1, kb3, bl3) _ _ _ ⟨hw, lv_sub hl [1, 2, 3, 4, 0] rfl, ⟨by omega, p3⟩⟩ (by show 17 - (q + 1) < 17 - q; omega)
      · refine lv_iconst (v := nI 0) hx hb dX1_kinds_31 (by decide) ?_
        refine st_top (y := st_p (st_nw T t (q + 1))) ((st_p0 (st_nw_t hg)).symm) ?_
        refine lv_istore_n (lv' := [(3, .int (st_p (st_nw T t (q + 1)))), (0, .ref h), (1, .int (nI (st_cn (fun t => st_nw T t t) t))), (2, .int (nI t)), (4, .int (nI q))]) hx hb dX1_kinds_32 rfl hl (by decide) rfl (fun ls hl => ?_)
        refine lv_iinc (v := nI (q + 1)) (lv' := [(4, .int (nI (q + 1))), (3, .int (st_p (st_nw T t (q + 1)))), (0, .ref h), (1, .int (nI (st_cn (fun t => st_nw T t t) t))), (2, .int (nI t))]) hx hb dX1_kinds_33 hl (k := 4) rfl (st_inc _) (by decide) rfl (fun ls hl => ?_)
        refine lv_goto (tgt := 15) hx hb dX1_kinds_36 (by decide) ?_
        exact ih2 (q + 1, kb3, bl3) _ _ _ ⟨hw, lv_sub hl [2, 3, 4, 1, 0] rfl, ⟨by omega, p3⟩⟩ (by show 17 - (q + 1) < 17 - q; omega)
set_option maxHeartbeats 4000000 in
set_option maxRecDepth 100000 in
/-- unrelated() -/
theorem mX1_unrelated (l : Launch) (D : va_G) (A : Nat → Prop) (h : Nat) (ad : Nat → Nat) (k : Nat → ClassId) (T : TT) (kb : Bool) (bl : Nat → Bool) (hT : st_wf T) (hM : st_MI T (kb, bl)) : Met l yX1_unrelated (ws_ yX1_unrelated cX1_unrelated 4 (some .int)) ({ frames := 4, cells := 0, slots := 0, locals := 89 }) (va_Pc [.ref h] (st_I D A (w1 h ad k T (kb, bl)) (ty1 k))) (va_Qi (fun (r : Int32) (u : S1) => r = st_urR T ∧ st_MI T u) (fun u t => st_I D A (w1 h ad k T u) (ty1 k) t) A) 0 0 A := by
  refine st_start (by decide) (Nat.le_of_ble_eq_true rfl) (fun p e s m below meth c E hr hlk hw ls hl => ?_)
  have hx := E.1
  have hb := E.2.1
  have E : st_E p s m c cX1_unrelated 4 _ RX1 D (ty1 k) := E
  have hl : lv_has ls 4 [(0, .ref h)] := hl
  refine lv_iconst (v := nI 0) hx hb dX1_unrelated_0 (by decide) ?_
  refine lv_istore_n (lv' := [(1, .int (nI 0)), (0, .ref h)]) hx hb dX1_unrelated_1 rfl hl (by decide) rfl (fun ls hl => ?_)
  refine lv_iconst (v := nI 0) hx hb dX1_unrelated_2 (by decide) ?_
  refine lv_istore_n (lv' := [(2, .int (nI 0)), (1, .int (nI 0)), (0, .ref h)]) hx hb dX1_unrelated_3 rfl hl (by decide) rfl (fun ls hl => ?_)
  refine st_loop (σ := Nat × Bool × (Nat → Bool)) (fun x H locs ls => st_W D A s.heap (w1 h ad k T (x.2.1, x.2.2)) H locs ∧ lv_has ls 4 [(0, .ref h), (1, .int (nI (st_sum (fun t => st_cn (fun s => st_ur T s t) t) x.1))), (2, .int (nI x.1))] ∧ (x.1 ≤ 16 ∧ st_MI T (x.2.1, x.2.2))) (fun x => 17 - x.1) (fun x H locs ls hJ ih => ?_) (0, kb, bl) ⟨hw, lv_sub hl [2, 1, 0] rfl, ⟨by omega, hM⟩⟩
  obtain ⟨t, kb1, bl1⟩ := x
  have hw : st_W D A s.heap (w1 h ad k T (kb1, bl1)) H locs := hJ.1
  have hl : lv_has ls 4 [(0, .ref h), (1, .int (nI (st_sum (fun t => st_cn (fun s => st_ur T s t) t) t))), (2, .int (nI t))] := hJ.2.1
  have hI : (t ≤ 16 ∧ st_MI T (kb1, bl1)) := hJ.2.2
  clear hJ
  obtain ⟨i1, i2⟩ := hI
  refine lv_iload_n hx hb dX1_unrelated_4 rfl (lv_at hl 2 rfl) ?_
  refine lv_bipush (v := nI 16) hx hb dX1_unrelated_5 (by decide) ?_
  refine st_icge (tgt := 50) hx hb dX1_unrelated_7 (by decide) (by omega) (by omega) (fun hd => ?_) (fun hd => ?_)
  · obtain rfl : t = 16 := by omega
    refine lv_iload_n hx hb dX1_unrelated_50 rfl (lv_at hl 1 rfl) ?_
    exact st_ri E hr hlk (kb1, bl1) hw ⟨rfl, i2⟩ dX1_unrelated_51
  · refine lv_iconst (v := nI 0) hx hb dX1_unrelated_10 (by decide) ?_
    refine lv_istore_n (lv' := [(3, .int (nI 0)), (0, .ref h), (1, .int (nI (st_sum (fun t => st_cn (fun s => st_ur T s t) t) t))), (2, .int (nI t))]) hx hb dX1_unrelated_11 rfl hl (by decide) rfl (fun ls hl => ?_)
    have hl : lv_has ls 4 [(3, .int (nI 0)), (0, .ref h), (1, .int (nI (st_sum (fun t => st_cn (fun s => st_ur T s t) t) t + st_cn (fun s => st_ur T s t) 0))), (2, .int (nI t))] := hl
    refine st_loop (σ := Nat × Bool × (Nat → Bool)) (fun x H locs ls => st_W D A s.heap (w1 h ad k T (x.2.1, x.2.2)) H locs ∧ lv_has ls 4 [(0, .ref h), (1, .int (nI (st_sum (fun t => st_cn (fun s => st_ur T s t) t) t + st_cn (fun s => st_ur T s t) x.1))), (2, .int (nI t)), (3, .int (nI x.1))] ∧ (x.1 ≤ t ∧ st_MI T (x.2.1, x.2.2))) (fun x => 17 - x.1) (fun x H locs ls hJ ih2 => ?_) (0, kb1, bl1) ⟨hw, lv_sub hl [1, 2, 3, 0] rfl, ⟨Nat.zero_le t, i2⟩⟩
    obtain ⟨q, kb2, bl2⟩ := x
    have hw : st_W D A s.heap (w1 h ad k T (kb2, bl2)) H locs := hJ.1
    have hl : lv_has ls 4 [(0, .ref h), (1, .int (nI (st_sum (fun t => st_cn (fun s => st_ur T s t) t) t + st_cn (fun s => st_ur T s t) q))), (2, .int (nI t)), (3, .int (nI q))] := hJ.2.1
    have hI2 : (q ≤ t ∧ st_MI T (kb2, bl2)) := hJ.2.2
    clear hJ
    obtain ⟨j1, j2⟩ := hI2
    refine lv_iload_n hx hb dX1_unrelated_12 rfl (lv_at hl 3 rfl) ?_
    refine lv_iload_n hx hb dX1_unrelated_13 rfl (lv_at hl 2 rfl) ?_
    refine st_icge (tgt := 44) hx hb dX1_unrelated_14 (by decide) (by omega) (by omega) (fun he => ?_) (fun he => ?_)
    · have e2 : q = t := by omega
      refine lv_iinc (v := nI (t + 1)) (lv' := [(2, .int (nI (t + 1))), (0, .ref h), (1, .int (nI (st_sum (fun t => st_cn (fun s => st_ur T s t) t) t + st_cn (fun s => st_ur T s t) q))), (3, .int (nI q))]) hx hb dX1_unrelated_44 hl (k := 2) rfl (st_inc _) (by decide) rfl (fun ls hl => ?_)
      refine lv_goto (tgt := 4) hx hb dX1_unrelated_47 (by decide) ?_
      have hl : lv_has ls 4 [(2, .int (nI (t + 1))), (0, .ref h), (1, .int (nI (st_sum (fun t => st_cn (fun s => st_ur T s t) t) (t + 1)))), (3, .int (nI t))] := by rw [e2] at hl; exact hl
      exact ih (t + 1, kb2, bl2) _ _ _ ⟨hw, lv_sub hl [1, 2, 0] rfl, ⟨by omega, j2⟩⟩ (by show 17 - (t + 1) < 17 - t; omega)
    · have h_q : q < 16 := by omega
      refine lv_aload_n hx hb dX1_unrelated_17 rfl (lv_at hl 0 rfl) ?_
      refine lv_iload_n hx hb dX1_unrelated_18 rfl (lv_at hl 3 rfl) ?_
      refine lv_iload_n hx hb dX1_unrelated_19 rfl (lv_at hl 2 rfl) ?_
      refine st_callT (As := [.int (nI q), .int (nI t)]) (rest := []) E hw (mX1_subtype l D A h ad k T kb2 bl2 (nI q) (nI t) hT j2) (lw_V q218 q199 q200 q17 q201) hdX1_subtype rfl ⟨rfl, rfl⟩ ⟨Nat.le_of_ble_eq_true rfl, Nat.le_of_ble_eq_true rfl⟩ (ci := 1) rfl rfl rfl hl.1 rfl (Nat.le_of_ble_eq_true rfl) dX1_unrelated_20 (fun r u H locs hp hw => ?_)
      obtain ⟨kb3, bl3⟩ := u
      obtain ⟨rfl, p3⟩ := hp
      have hw : st_W D A s.heap (w1 h ad k T (kb3, bl3)) H locs := hw
      refine st_top (y := st_p (st_Sb T (q * 16 + t))) (st_suR_n h_q hd) ?_
      refine st_ifnep (tgt := 38) hx hb dX1_unrelated_23 (by decide) (fun hf => ?_) (fun hf => ?_)
      · have hl : lv_has ls 4 [(0, .ref h), (1, .int (nI (st_sum (fun t => st_cn (fun s => st_ur T s t) t) t + st_cn (fun s => st_ur T s t) (q + 1)))), (2, .int (nI t)), (3, .int (nI q))] := by rw [st_cn_f (f := (fun s => st_ur T s t)) (n := q) (fun z => z.1 hf)]; exact hl
        refine lv_iinc (v := nI (q + 1)) (lv' := [(3, .int (nI (q + 1))), (0, .ref h), (1, .int (nI (st_sum (fun t => st_cn (fun s => st_ur T s t) t) t + st_cn (fun s => st_ur T s t) (q + 1)))), (2, .int (nI t))]) hx hb dX1_unrelated_38 hl (k := 3) rfl (st_inc _) (by decide) rfl (fun ls hl => ?_)
        refine lv_goto (tgt := 12) hx hb dX1_unrelated_41 (by decide) ?_
        exact ih2 (q + 1, kb3, bl3) _ _ _ ⟨hw, lv_sub hl [1, 2, 3, 0] rfl, ⟨by omega, p3⟩⟩ (by show 17 - (q + 1) < 17 - q; omega)
      · refine lv_aload_n hx hb dX1_unrelated_26 rfl (lv_at hl 0 rfl) ?_
        refine lv_iload_n hx hb dX1_unrelated_27 rfl (lv_at hl 2 rfl) ?_
        refine lv_iload_n hx hb dX1_unrelated_28 rfl (lv_at hl 3 rfl) ?_
        refine st_callT (As := [.int (nI t), .int (nI q)]) (rest := []) E hw (mX1_subtype l D A h ad k T kb3 bl3 (nI t) (nI q) hT p3) (lw_V q218 q199 q200 q17 q201) hdX1_subtype rfl ⟨rfl, rfl⟩ ⟨Nat.le_of_ble_eq_true rfl, Nat.le_of_ble_eq_true rfl⟩ (ci := 1) rfl rfl rfl hl.1 rfl (Nat.le_of_ble_eq_true rfl) dX1_unrelated_29 (fun r u H locs hp hw => ?_)
        obtain ⟨kb4, bl4⟩ := u
        obtain ⟨rfl, p4⟩ := hp
        have hw : st_W D A s.heap (w1 h ad k T (kb4, bl4)) H locs := hw
        refine st_top (y := st_p (st_Sb T (t * 16 + q))) (st_suR_n hd h_q) ?_
        refine st_ifnep (tgt := 38) hx hb dX1_unrelated_32 (by decide) (fun hg => ?_) (fun hg => ?_)
        · have hl : lv_has ls 4 [(0, .ref h), (1, .int (nI (st_sum (fun t => st_cn (fun s => st_ur T s t) t) t + st_cn (fun s => st_ur T s t) (q + 1)))), (2, .int (nI t)), (3, .int (nI q))] := by rw [st_cn_f (f := (fun s => st_ur T s t)) (n := q) (fun z => z.2 hg)]; exact hl
          refine lv_iinc (v := nI (q + 1)) (lv' := [(3, .int (nI (q + 1))), (0, .ref h), (1, .int (nI (st_sum (fun t => st_cn (fun s => st_ur T s t) t) t + st_cn (fun s => st_ur T s t) (q + 1)))), (2, .int (nI t))]) hx hb dX1_unrelated_38 hl (k := 3) rfl (st_inc _) (by decide) rfl (fun ls hl => ?_)
          refine lv_goto (tgt := 12) hx hb dX1_unrelated_41 (by decide) ?_
          exact ih2 (q + 1, kb4, bl4) _ _ _ ⟨hw, lv_sub hl [1, 2, 3, 0] rfl, ⟨by omega, p4⟩⟩ (by show 17 - (q + 1) < 17 - q; omega)
        · refine lv_iinc (v := nI (st_sum (fun t => st_cn (fun s => st_ur T s t) t) t + st_cn (fun s => st_ur T s t) q + 1)) (lv' := [(1, .int (nI (st_sum (fun t => st_cn (fun s => st_ur T s t) t) t + st_cn (fun s => st_ur T s t) q + 1))), (0, .ref h), (2, .int (nI t)), (3, .int (nI q))]) hx hb dX1_unrelated_35 hl (k := 1) rfl (st_inc _) (by decide) rfl (fun ls hl => ?_)
          have hl : lv_has ls 4 [(1, .int (nI (st_sum (fun t => st_cn (fun s => st_ur T s t) t) t + st_cn (fun s => st_ur T s t) (q + 1)))), (0, .ref h), (2, .int (nI t)), (3, .int (nI q))] := by rw [st_cn_t (f := (fun s => st_ur T s t)) (n := q) ⟨hf, hg⟩]; exact hl
          refine lv_iinc (v := nI (q + 1)) (lv' := [(3, .int (nI (q + 1))), (1, .int (nI (st_sum (fun t => st_cn (fun s => st_ur T s t) t) t + st_cn (fun s => st_ur T s t) (q + 1)))), (0, .ref h), (2, .int (nI t))]) hx hb dX1_unrelated_38 hl (k := 3) rfl (st_inc _) (by decide) rfl (fun ls hl => ?_)
          refine lv_goto (tgt := 12) hx hb dX1_unrelated_41 (by decide) ?_
          exact ih2 (q + 1, kb4, bl4) _ _ _ ⟨hw, lv_sub hl [2, 1, 3, 0] rfl, ⟨by omega, p4⟩⟩ (by show 17 - (q + 1) < 17 - q; omega)
end
section
/-! the class's types and the model's: alike, they answer alike, and stay so -/
def st_Rl (T M : TT) : Prop := ∀ a, a < 16 → tS T a = tS M a ∧ (tS T a = 4 → tA T a = tA M a ∧ tR T a = tR M a) ∧ (tS T a = 5 → ∀ l, l < 4 → tF T (a * 4 + l) = tF M (a * 4 + l) ∧ (tF T (a * 4 + l) ≠ none → tO T (a * 4 + l) = tO M (a * 4 + l)))
theorem st_Rl_sym {T M : TT} (h : st_Rl T M) : st_Rl M T := by
  intro a ha
  obtain ⟨h1, h2, h3⟩ := h a ha
  refine ⟨h1.symm, fun h4 => ?_, fun h5 l hl => ?_⟩
  · obtain ⟨e1, e2⟩ := h2 (h1.trans h4)
    exact ⟨e1.symm, e2.symm⟩
  · obtain ⟨e1, e2⟩ := h3 (h1.trans h5) l hl
    exact ⟨e1.symm, fun q => (e2 (by rw [e1]; exact q)).symm⟩
theorem st_Rl_rl {T M : TT} {R : Nat → Prop} {s t : Nat} (h : st_Rl T M) (hs : s < 16) (ht : t < 16) (hr : st_rl T R s t) : st_rl M R s t := by
  obtain ⟨a1, a2, a3⟩ := h s hs
  obtain ⟨b1, b2, b3⟩ := h t ht
  rcases hr with h1 | h1 | ⟨h1, h2, h3⟩
  · exact Or.inl (b1.symm.trans h1)
  · exact Or.inr (Or.inl (a1.symm.trans h1))
  · refine Or.inr (Or.inr ⟨a1.symm.trans (h1.trans b1), fun h4 => ?_, fun h5 l hl y hy => ?_⟩)
    · have h4 := a1.trans h4
      obtain ⟨e1, e2⟩ := a2 h4
      obtain ⟨e3, e4⟩ := b2 (h1.symm.trans h4)
      rw [← e1, ← e2, ← e3, ← e4]
      exact h2 h4
    · have h5 := a1.trans h5
      obtain ⟨f1, o1⟩ := a3 h5 l hl
      obtain ⟨f2, o2⟩ := b3 (h1.symm.trans h5) l hl
      rw [← f2] at hy
      obtain ⟨x, hx, ho, hR⟩ := h3 h5 l hl y hy
      refine ⟨x, f1.symm.trans hx, ?_, hR⟩
      rw [← o1 (by rw [hx]; exact fun q => by cases q), ← o2 (by rw [hy]; exact fun q => by cases q)]
      exact ho
theorem st_Rl_Sb1 {T M : TT} (h : st_Rl T M) {p : Nat} (hp : st_Sb T p) : st_Sb M p := by
  obtain ⟨R, h1, h2⟩ := hp
  refine ⟨R, h1, fun q hq => ⟨(h2 q hq).1, ?_⟩⟩
  have := (h2 q hq).1
  exact st_Rl_rl h (by omega) (by omega) (h2 q hq).2
theorem st_Rl_Sb {T M : TT} (h : st_Rl T M) : st_Sb T = st_Sb M := funext fun _ => propext ⟨st_Rl_Sb1 h, st_Rl_Sb1 (st_Rl_sym h)⟩
theorem st_Rl_su {T M : TT} (h : st_Rl T M) (x y : Int32) : st_suR T x y = st_suR M x y := by unfold st_suR; rw [st_Rl_Sb h]
theorem st_Rl_eq1 {T M : TT} (h : st_Rl T M) : st_eq T = st_eq M := by
  funext a b
  unfold st_eq
  rw [st_Rl_Sb h]
theorem st_Rl_eq {T M : TT} (h : st_Rl T M) (x y : Int32) : st_eqR T x y = st_eqR M x y := by unfold st_eqR; rw [st_Rl_eq1 h]
theorem st_Rl_sb {T M : TT} (h : st_Rl T M) (x : Int32) : st_sbR T x = st_sbR M x := by unfold st_sbR; rw [st_Rl_Sb h]
theorem st_Rl_kd {T M : TT} (h : st_Rl T M) : st_kdR T = st_kdR M := by
  unfold st_kdR st_nw
  rw [st_Rl_eq1 h]
theorem st_Rl_ur {T M : TT} (h : st_Rl T M) : st_urR T = st_urR M := by
  unfold st_urR st_ur
  rw [st_Rl_Sb h]
theorem st_ty_lt {x : Int32} {a : Nat} (h : st_ty x = some a) : a < 16 := by
  obtain ⟨j, hj, rfl⟩ := st_ty_s (by rw [h]; exact fun q => by cases q)
  rw [st_ty_n hj] at h
  cases h
  exact hj
theorem st_lb_lt {x : Int32} {a : Nat} (h : st_lb x = some a) : a < 4 := by
  obtain ⟨j, hj, rfl⟩ := st_lb_s' (by rw [h]; exact fun q => by cases q)
  rw [st_lb_n hj] at h
  cases h
  exact hj
theorem st_sc_lt {x : Int32} {a : Nat} (h : st_sc x = some a) : a < 6 ∧ a ≠ 4 := by
  by_cases hc : x < 0 ∨ 5 < x ∨ x = 4
  · rw [st_sc_b hc] at h; cases h
  · obtain ⟨j, hj, h4, rfl⟩ := st_sc_s (fun q => hc (Or.inl q)) (fun q => hc (Or.inr (Or.inl q))) (fun q => hc (Or.inr (Or.inr q)))
    rw [st_sc_n hj h4] at h
    cases h
    exact ⟨hj, h4⟩
theorem st_Rl_so {T M : TT} (h : st_Rl T M) (x : Int32) : st_soR T x = st_soR M x := by
  unfold st_soR
  rcases e : st_ty x with _ | a
  · rfl
  · exact congrArg nI (h a (st_ty_lt e)).1
theorem st_Rl_shR {T M : TT} (h : st_Rl T M) (x y : Int32) : st_shR T x y = st_shR M x y := by
  unfold st_shR
  rcases e : st_ty x with _ | a
  · rfl
  · rcases e2 : st_sc y with _ | b
    · rfl
    · exact congrArg nI (h a (st_ty_lt e)).1
theorem st_Rl_fnR {T M : TT} (h : st_Rl T M) (x y z : Int32) : st_fnR T x y z = st_fnR M x y z := by
  unfold st_fnR
  rcases e : st_ty x with _ | a
  · rfl
  · rcases e2 : st_ty y with _ | b
    · rfl
    · rcases e3 : st_ty z with _ | d
      · rfl
      · exact congrArg nI (h a (st_ty_lt e)).1
theorem st_Rl_ff {T M : TT} (h : st_Rl T M) {a l : Nat} (ha : a < 16) (hl : l < 4) : (if tS T a = 5 then st_had (tF T (a * 4 + l)) else -3) = if tS M a = 5 then st_had (tF M (a * 4 + l)) else -3 := by
  obtain ⟨h1, -, h3⟩ := h a ha
  by_cases h5 : tS T a = 5
  · rw [if_pos h5, if_pos (h1.symm.trans h5), (h3 h5 l hl).1]
  · rw [if_neg h5, if_neg (fun q => h5 (h1.trans q))]
theorem st_Rl_fdR {T M : TT} (h : st_Rl T M) (x y z : Int32) : st_fdR T x y z = st_fdR M x y z := by
  unfold st_fdR
  rcases e : st_ty x with _ | a
  · rfl
  · rcases e2 : st_ty z with _ | b
    · rfl
    · rcases e3 : st_lb y with _ | d
      · rfl
      · exact st_Rl_ff h (st_ty_lt e) (st_lb_lt e3)
theorem st_Rl_dpR {T M : TT} (h : st_Rl T M) (x y : Int32) : st_dpR T x y = st_dpR M x y := by
  unfold st_dpR
  rcases e : st_ty x with _ | a
  · rfl
  · rcases e3 : st_lb y with _ | d
    · rfl
    · exact st_Rl_ff h (st_ty_lt e) (st_lb_lt e3)
theorem st_Rl_sh {T M : TT} (h : st_Rl T M) (x y : Int32) : st_Rl (st_shT0 T x y) (st_shT1 M x y) := by
  unfold st_shT0 st_shT1
  rcases e : st_ty x with _ | a
  · exact h
  · rcases e2 : st_sc y with _ | b
    · exact h
    · obtain ⟨hb, hb4⟩ := st_sc_lt e2
      intro i hi
      show va_up (tS T) a b i = va_up (tS M) a b i ∧ (va_up (tS T) a b i = 4 → tA T i = tA M i ∧ tR T i = tR M i) ∧ (va_up (tS T) a b i = 5 → ∀ l, l < 4 → st_cl none (tF T) a 4 (i * 4 + l) = st_cl none (tF M) a 4 (i * 4 + l) ∧ (st_cl none (tF T) a 4 (i * 4 + l) ≠ none → st_cl false (tO T) a 4 (i * 4 + l) = tO M (i * 4 + l)))
      by_cases hia : i = a
      · subst hia
        rw [st_us, st_us]
        refine ⟨rfl, fun q => absurd q hb4, fun _ l hl => ?_⟩
        rw [st_cl_in hl, st_cl_in hl]
        exact ⟨rfl, fun q => absurd rfl q⟩
      · rw [st_un hia, st_un hia]
        obtain ⟨h1, h2, h3⟩ := h i hi
        refine ⟨h1, h2, fun h5 l hl => ?_⟩
        rw [st_cl_out hl hia, st_cl_out hl hia, st_cl_out hl hia]
        exact h3 h5 l hl
theorem st_Rl_fn {T M : TT} (h : st_Rl T M) (x y z : Int32) : st_Rl (st_fnT0 T x y z) (st_fnT1 M x y z) := by
  unfold st_fnT0 st_fnT1
  rcases e : st_ty x with _ | a
  · exact h
  · rcases e2 : st_ty y with _ | b
    · exact h
    · rcases e3 : st_ty z with _ | d
      · exact h
      · intro i hi
        show va_up (tS T) a 4 i = va_up (tS M) a 4 i ∧ (va_up (tS T) a 4 i = 4 → va_up (tA T) a b i = va_up (tA M) a b i ∧ va_up (tR T) a d i = va_up (tR M) a d i) ∧ (va_up (tS T) a 4 i = 5 → ∀ l, l < 4 → st_cl none (tF T) a 4 (i * 4 + l) = tF M (i * 4 + l) ∧ (st_cl none (tF T) a 4 (i * 4 + l) ≠ none → st_cl false (tO T) a 4 (i * 4 + l) = tO M (i * 4 + l)))
        by_cases hia : i = a
        · subst hia
          rw [st_us, st_us, st_us, st_us, st_us, st_us]
          exact ⟨rfl, fun _ => ⟨rfl, rfl⟩, fun q => absurd q (by decide)⟩
        · rw [st_un hia, st_un hia, st_un hia, st_un hia, st_un hia, st_un hia]
          obtain ⟨h1, h2, h3⟩ := h i hi
          refine ⟨h1, h2, fun h5 l hl => ?_⟩
          rw [st_cl_out hl hia, st_cl_out hl hia]
          exact h3 h5 l hl
theorem st_Rl_set {T M : TT} (h : st_Rl T M) (a l : Nat) (o : Option Nat) (b : Bool) : st_Rl (st_set T (a * 4 + l) o b) (st_set M (a * 4 + l) o b) := by
  intro i hi
  obtain ⟨h1, h2, h3⟩ := h i hi
  refine ⟨h1, h2, fun h5 j hj => ?_⟩
  show va_up (tF T) (a * 4 + l) o (i * 4 + j) = va_up (tF M) (a * 4 + l) o (i * 4 + j) ∧ (va_up (tF T) (a * 4 + l) o (i * 4 + j) ≠ none → va_up (tO T) (a * 4 + l) b (i * 4 + j) = va_up (tO M) (a * 4 + l) b (i * 4 + j))
  by_cases e : i * 4 + j = a * 4 + l
  · rw [e, st_us, st_us, st_us, st_us]
    exact ⟨rfl, fun _ => rfl⟩
  · rw [st_un e, st_un e, st_un e, st_un e]
    exact h3 h5 j hj
theorem st_Rl_if {T M : TT} (h : st_Rl T M) {a l : Nat} (ha : a < 16) (o : Option Nat) (b : Bool) : st_Rl (if tS T a = 5 then st_set T (a * 4 + l) o b else T) (if tS M a = 5 then st_set M (a * 4 + l) o b else M) := by
  obtain ⟨h1, -, -⟩ := h a ha
  by_cases h5 : tS T a = 5
  · rw [if_pos h5, if_pos (h1.symm.trans h5)]
    exact st_Rl_set h a l o b
  · rw [if_neg h5, if_neg (fun q => h5 (h1.trans q))]
    exact h
theorem st_Rl_fd {T M : TT} (h : st_Rl T M) (x y z v : Int32) : st_Rl (st_fdT T x y z v) (st_fdT M x y z v) := by
  unfold st_fdT
  rcases e : st_ty x with _ | a
  · exact h
  · rcases e2 : st_ty z with _ | b
    · exact h
    · rcases e3 : st_lb y with _ | d
      · exact h
      · exact st_Rl_if h (st_ty_lt e) _ _
theorem st_Rl_dp {T M : TT} (h : st_Rl T M) (x y : Int32) : st_Rl (st_dpT T x y) (st_dpT M x y) := by
  unfold st_dpT
  rcases e : st_ty x with _ | a
  · exact h
  · rcases e3 : st_lb y with _ | d
    · exact h
    · exact st_Rl_if h (st_ty_lt e) _ _
/-! well-formed stays well-formed -/
theorem st_wf_up {f : Nat → Nat} {n a b : Nat} (h : ∀ j, f j < n) (hb : b < n) (j : Nat) : va_up f a b j < n := by
  by_cases e : j = a
  · rw [e, st_us]; exact hb
  · rw [st_un e]; exact h j
theorem st_wf_cl {f : Nat → Option Nat} {a : Nat} (h : ∀ j x, f j = some x → x < 16) (j x : Nat) (hx : st_cl none f a 4 j = some x) : x < 16 := by
  unfold st_cl at hx
  split at hx
  · cases hx
  · exact h j x hx
theorem st_wf_sh0 {T : TT} (h : st_wf T) (x y : Int32) : st_wf (st_shT0 T x y) := by
  unfold st_shT0
  rcases e : st_ty x with _ | a
  · exact h
  · rcases e2 : st_sc y with _ | b
    · exact h
    · exact ⟨st_wf_up h.1 (st_sc_lt e2).1, h.2.1, h.2.2.1, st_wf_cl h.2.2.2⟩
theorem st_wf_sh1 {T : TT} (h : st_wf T) (x y : Int32) : st_wf (st_shT1 T x y) := by
  unfold st_shT1
  rcases e : st_ty x with _ | a
  · exact h
  · rcases e2 : st_sc y with _ | b
    · exact h
    · exact ⟨st_wf_up h.1 (st_sc_lt e2).1, h.2.1, h.2.2.1, st_wf_cl h.2.2.2⟩
theorem st_wf_fn0 {T : TT} (h : st_wf T) (x y z : Int32) : st_wf (st_fnT0 T x y z) := by
  unfold st_fnT0
  rcases e : st_ty x with _ | a
  · exact h
  · rcases e2 : st_ty y with _ | b
    · exact h
    · rcases e3 : st_ty z with _ | d
      · exact h
      · exact ⟨st_wf_up h.1 (by decide), st_wf_up h.2.1 (st_ty_lt e2), st_wf_up h.2.2.1 (st_ty_lt e3), st_wf_cl h.2.2.2⟩
theorem st_wf_fn1 {T : TT} (h : st_wf T) (x y z : Int32) : st_wf (st_fnT1 T x y z) := by
  unfold st_fnT1
  rcases e : st_ty x with _ | a
  · exact h
  · rcases e2 : st_ty y with _ | b
    · exact h
    · rcases e3 : st_ty z with _ | d
      · exact h
      · exact ⟨st_wf_up h.1 (by decide), st_wf_up h.2.1 (st_ty_lt e2), st_wf_up h.2.2.1 (st_ty_lt e3), h.2.2.2⟩
theorem st_wf_set {T : TT} (h : st_wf T) {j : Nat} {o : Option Nat} {b : Bool} (ho : ∀ x, o = some x → x < 16) : st_wf (st_set T j o b) := by
  refine ⟨h.1, h.2.1, h.2.2.1, fun i x hx => ?_⟩
  have hx : va_up (tF T) j o i = some x := hx
  by_cases e : i = j
  · rw [e, st_us] at hx; exact ho x hx
  · rw [st_un e] at hx; exact h.2.2.2 i x hx
theorem st_wf_fd {T : TT} (h : st_wf T) (x y z v : Int32) : st_wf (st_fdT T x y z v) := by
  unfold st_fdT
  rcases e : st_ty x with _ | a
  · exact h
  · rcases e2 : st_ty z with _ | b
    · exact h
    · rcases e3 : st_lb y with _ | d
      · exact h
      · show st_wf (if tS T a = 5 then _ else T)
        split
        · exact st_wf_set h (fun w hw => by cases hw; exact st_ty_lt e2)
        · exact h
theorem st_wf_dp {T : TT} (h : st_wf T) (x y : Int32) : st_wf (st_dpT T x y) := by
  unfold st_dpT
  rcases e : st_ty x with _ | a
  · exact h
  · rcases e3 : st_lb y with _ | d
    · exact h
    · show st_wf (if tS T a = 5 then _ else T)
      split
      · exact st_wf_set h (fun w hw => by cases hw)
      · exact h
/-! the start -/
def st_T0 : TT := (fun _ => 0, fun _ => 0, fun _ => 0, fun _ => none, fun _ => false)
def st_M0 : TT := (fun _ => 0, fun _ => 0, fun _ => 0, fun _ => some 0, fun _ => false)
def st_u0 : S0 := (fun _ => 0, (0, fun _ => 0, fun _ => some 0, fun _ => false), some 0)
def st_v0 : S1 := (false, fun _ => false)
theorem st_wf_T0 : st_wf st_T0 := ⟨fun _ => (by decide : (0 : Nat) < 6), fun _ => (by decide : (0 : Nat) < 16), fun _ => (by decide : (0 : Nat) < 16), fun _ _ h => (by cases h)⟩
theorem st_wf_M0 : st_wf st_M0 := ⟨fun _ => (by decide : (0 : Nat) < 6), fun _ => (by decide : (0 : Nat) < 16), fun _ => (by decide : (0 : Nat) < 16), fun _ x h => (by have h : (some 0 : Option Nat) = some x := h; cases h; decide)⟩
theorem st_Rl_0 : st_Rl st_T0 st_M0 := fun _ _ => ⟨rfl, fun h => absurd (show (0 : Nat) = 4 from h) (by decide), fun h => absurd (show (0 : Nat) = 5 from h) (by decide)⟩
end
section
/-! the constructors -/
theorem st_same {s : State} {c c' : ClassId} {ty : FieldType} (hz : ty = .int ∨ ty = .boolean) (h1 : va_RA s c ty) (h2 : va_RA s c' ty) : c' = c := by
  rcases hz with rfl | rfl <;> exact Option.some.inj (Eq.trans (Eq.symm h2) h1)
set_option maxHeartbeats 4000000 in
set_option maxRecDepth 100000 in
/-- StructuralTypes() -/
theorem mX0_init (l : Launch) (D : va_G) (A : Nat → Prop) (h : Nat) : Met l yX0_init (ws_ yX0_init cX0_init 2 none) ({ frames := 1, cells := 9, slots := 1200, locals := 12 }) (va_Pc [.ref h] (fun U => (∀ q, U.heap.size ≤ q → A q) ∧ st_I D A [(h, .inr (0, [.null, .null, .null, .null, .null, .null, .int (nI 0), .null, .null, .null, .int (nI 0)]))] [] U)) (va_Qv (fun (_ : (Nat → Nat) × (Nat → ClassId)) => True) (fun u t => st_I D A (w0 h u.1 u.2 st_T0 st_u0) (ty0 u.2) t) A) 9 1200 A := by
  refine Met.ofW (cc := cX0_init) (maxL := 2) (ret := none) (by decide) rfl ?_
  intro p e s m args below meth c s₁ B hml hv
  obtain ⟨rfl, hA, hP, hK, hD⟩ := hv
  have hx := B.exec
  have hb := B.bytes
  have hr := B.returns
  have hts := atoms_spec (ws := ws_ yX0_init cX0_init 2 none) B.pre
  have hts : ∀ w ∈ lw_all, w.before _ s = true := fun w h => hts w (List.mem_cons_of_mem _ h)
  have hown : s.vm.findClass RX0 = some m.cls := findClass_of_methodNamed B.named
  have hlk := B.notSynchronized
  have hin : meth.name = "<init>" := (name_of_methodNamed B.named B.method).1
  have hS : va_S A s.heap s.heap [] := va_S.rf
  have hl := lv_entry ([.ref h]) (n := 2) (Nat.le_of_ble_eq_true rfl)
  rw [lg_entry_eq]
  generalize (lg_sl ([.ref h]) ++ List.replicate (2 - (lg_sl ([.ref h])).length) Slot.unset).toArray = ls at hl ⊢
  have hl : lv_has ls 2 [(0, .ref h)] := hl
  refine lv_aload_n hx hb dX0_init_0 rfl (lv_at hl 0 rfl) ?_
  refine W.objInit hx hb hown (hts _ q23) (hts _ q24) (hts _ q25) rfl (by rw [hml]; exact hl.1) rfl dX0_init_1 (Nat.le_of_ble_eq_true rfl) (Nat.le_of_ble_eq_true rfl) ?_
  refine W.eq (g2 := F0 m 4 ls []) rfl ?_
  refine lv_aload_n hx hb dX0_init_4 rfl (lv_at hl 0 rfl) ?_
  refine lv_bipush (v := nI 16) hx hb dX0_init_5 (by decide) ?_
  refine va_newa (atype := .int) (ty := .int) hx hb (hts _ q60) rfl hK hP hD hS hA (n := nI 16) (N' := 16) (a0 := (16, .inl (fun _ => nI 0))) (fun _ => rfl) (by decide) (by decide) (by decide) (Nat.le_of_ble_eq_true rfl) (Nat.le_of_ble_eq_true rfl) dX0_init_7 (fun a0 c0_ H hK hP hD hS => ?_)
  have hK : va_K D vwCl [(c0_, .int)] s := hK
  have hP : va_P D vwCl [(h, .inr (0, [.null, .null, .null, .null, .null, .null, .int (nI 0), .null, .null, .null, .int (nI 0)])), (a0, .inl (c0_, 16, .inl (fun _ => nI 0)))] H := hP
  have hD : va_D A [(h, .inr (0, [.null, .null, .null, .null, .null, .null, .int (nI 0), .null, .null, .null, .int (nI 0)])), (a0, .inl (c0_, 16, .inl (fun _ => nI 0)))] := hD
  refine va_putF (D := D) (ci := 0) (v := .ref a0) (ty := .array .int) (C := RX0) (T := TX0) (N := 11) hx hb hts in_X0 tyX0 tyX0_ok nmX0 hown hK hP hD hS 0 rfl rfl 0 (by decide) (hts _ q26) (fun _ h9 => h9) rfl hin rfl (by decide +kernel) rfl rfl (Nat.le_of_ble_eq_true rfl) dX0_init_9 (fun H locs hP hD hS => ?_)
  have hP : va_P D vwCl [(h, .inr (0, [.ref a0, .null, .null, .null, .null, .null, .int (nI 0), .null, .null, .null, .int (nI 0)])), (a0, .inl (c0_, 16, .inl (fun _ => nI 0)))] H := hP
  have hD : va_D A [(h, .inr (0, [.ref a0, .null, .null, .null, .null, .null, .int (nI 0), .null, .null, .null, .int (nI 0)])), (a0, .inl (c0_, 16, .inl (fun _ => nI 0)))] := hD
  refine lv_aload_n hx hb dX0_init_12 rfl (lv_at hl 0 rfl) ?_
  refine lv_bipush (v := nI 16) hx hb dX0_init_13 (by decide) ?_
  refine va_newa (atype := .int) (ty := .int) hx hb (hts _ q60) rfl hK hP hD hS hA (n := nI 16) (N' := 16) (a0 := (16, .inl (fun _ => nI 0))) (fun _ => rfl) (by decide) (by decide) (by decide) (Nat.le_of_ble_eq_true rfl) (Nat.le_of_ble_eq_true rfl) dX0_init_15 (fun a1 c1_ H hK hP hD hS => ?_)
  have ec : c0_ = c1_ := Eq.symm <| st_same (Or.inl rfl) (hK.2 0 _ rfl).2 (hK.2 1 _ rfl).2
  subst ec
  have hK := hK.sub (tys' := [(c0_, .int)]) [0] rfl
  have hP : va_P D vwCl [(h, .inr (0, [.ref a0, .null, .null, .null, .null, .null, .int (nI 0), .null, .null, .null, .int (nI 0)])), (a0, .inl (c0_, 16, .inl (fun _ => nI 0))), (a1, .inl (c0_, 16, .inl (fun _ => nI 0)))] H := hP
  have hD : va_D A [(h, .inr (0, [.ref a0, .null, .null, .null, .null, .null, .int (nI 0), .null, .null, .null, .int (nI 0)])), (a0, .inl (c0_, 16, .inl (fun _ => nI 0))), (a1, .inl (c0_, 16, .inl (fun _ => nI 0)))] := hD
  refine va_putF (D := D) (ci := 0) (v := .ref a1) (ty := .array .int) (C := RX0) (T := TX0) (N := 11) hx hb hts in_X0 tyX0 tyX0_ok nmX0 hown hK hP hD hS 0 rfl rfl 1 (by decide) (hts _ q27) (fun _ h9 => h9) rfl hin rfl (by decide +kernel) rfl rfl (Nat.le_of_ble_eq_true rfl) dX0_init_17 (fun H locs hP hD hS => ?_)
  have hP : va_P D vwCl [(h, .inr (0, [.ref a0, .ref a1, .null, .null, .null, .null, .int (nI 0), .null, .null, .null, .int (nI 0)])), (a0, .inl (c0_, 16, .inl (fun _ => nI 0))), (a1, .inl (c0_, 16, .inl (fun _ => nI 0)))] H := hP
  have hD : va_D A [(h, .inr (0, [.ref a0, .ref a1, .null, .null, .null, .null, .int (nI 0), .null, .null, .null, .int (nI 0)])), (a0, .inl (c0_, 16, .inl (fun _ => nI 0))), (a1, .inl (c0_, 16, .inl (fun _ => nI 0)))] := hD
  refine lv_aload_n hx hb dX0_init_20 rfl (lv_at hl 0 rfl) ?_
  refine lv_bipush (v := nI 16) hx hb dX0_init_21 (by decide) ?_
  refine va_newa (atype := .int) (ty := .int) hx hb (hts _ q60) rfl hK hP hD hS hA (n := nI 16) (N' := 16) (a0 := (16, .inl (fun _ => nI 0))) (fun _ => rfl) (by decide) (by decide) (by decide) (Nat.le_of_ble_eq_true rfl) (Nat.le_of_ble_eq_true rfl) dX0_init_23 (fun a2 c2_ H hK hP hD hS => ?_)
  have ec : c0_ = c2_ := Eq.symm <| st_same (Or.inl rfl) (hK.2 0 _ rfl).2 (hK.2 1 _ rfl).2
  subst ec
  have hK := hK.sub (tys' := [(c0_, .int)]) [0] rfl
  have hP : va_P D vwCl [(h, .inr (0, [.ref a0, .ref a1, .null, .null, .null, .null, .int (nI 0), .null, .null, .null, .int (nI 0)])), (a0, .inl (c0_, 16, .inl (fun _ => nI 0))), (a1, .inl (c0_, 16, .inl (fun _ => nI 0))), (a2, .inl (c0_, 16, .inl (fun _ => nI 0)))] H := hP
  have hD : va_D A [(h, .inr (0, [.ref a0, .ref a1, .null, .null, .null, .null, .int (nI 0), .null, .null, .null, .int (nI 0)])), (a0, .inl (c0_, 16, .inl (fun _ => nI 0))), (a1, .inl (c0_, 16, .inl (fun _ => nI 0))), (a2, .inl (c0_, 16, .inl (fun _ => nI 0)))] := hD
  refine va_putF (D := D) (ci := 0) (v := .ref a2) (ty := .array .int) (C := RX0) (T := TX0) (N := 11) hx hb hts in_X0 tyX0 tyX0_ok nmX0 hown hK hP hD hS 0 rfl rfl 2 (by decide) (hts _ q28) (fun _ h9 => h9) rfl hin rfl (by decide +kernel) rfl rfl (Nat.le_of_ble_eq_true rfl) dX0_init_25 (fun H locs hP hD hS => ?_)
  have hP : va_P D vwCl [(h, .inr (0, [.ref a0, .ref a1, .ref a2, .null, .null, .null, .int (nI 0), .null, .null, .null, .int (nI 0)])), (a0, .inl (c0_, 16, .inl (fun _ => nI 0))), (a1, .inl (c0_, 16, .inl (fun _ => nI 0))), (a2, .inl (c0_, 16, .inl (fun _ => nI 0)))] H := hP
  have hD : va_D A [(h, .inr (0, [.ref a0, .ref a1, .ref a2, .null, .null, .null, .int (nI 0), .null, .null, .null, .int (nI 0)])), (a0, .inl (c0_, 16, .inl (fun _ => nI 0))), (a1, .inl (c0_, 16, .inl (fun _ => nI 0))), (a2, .inl (c0_, 16, .inl (fun _ => nI 0)))] := hD
  refine lv_aload_n hx hb dX0_init_28 rfl (lv_at hl 0 rfl) ?_
  refine lv_bipush (v := nI 64) hx hb dX0_init_29 (by decide) ?_
  refine va_newa (atype := .int) (ty := .int) hx hb (hts _ q60) rfl hK hP hD hS hA (n := nI 64) (N' := 64) (a0 := (64, .inl (fun _ => nI 0))) (fun _ => rfl) (by decide) (by decide) (by decide) (Nat.le_of_ble_eq_true rfl) (Nat.le_of_ble_eq_true rfl) dX0_init_31 (fun a3 c3_ H hK hP hD hS => ?_)
  have ec : c0_ = c3_ := Eq.symm <| st_same (Or.inl rfl) (hK.2 0 _ rfl).2 (hK.2 1 _ rfl).2
  subst ec
  have hK := hK.sub (tys' := [(c0_, .int)]) [0] rfl
  have hP : va_P D vwCl [(h, .inr (0, [.ref a0, .ref a1, .ref a2, .null, .null, .null, .int (nI 0), .null, .null, .null, .int (nI 0)])), (a0, .inl (c0_, 16, .inl (fun _ => nI 0))), (a1, .inl (c0_, 16, .inl (fun _ => nI 0))), (a2, .inl (c0_, 16, .inl (fun _ => nI 0))), (a3, .inl (c0_, 64, .inl (fun _ => nI 0)))] H := hP
  have hD : va_D A [(h, .inr (0, [.ref a0, .ref a1, .ref a2, .null, .null, .null, .int (nI 0), .null, .null, .null, .int (nI 0)])), (a0, .inl (c0_, 16, .inl (fun _ => nI 0))), (a1, .inl (c0_, 16, .inl (fun _ => nI 0))), (a2, .inl (c0_, 16, .inl (fun _ => nI 0))), (a3, .inl (c0_, 64, .inl (fun _ => nI 0)))] := hD
  refine va_putF (D := D) (ci := 0) (v := .ref a3) (ty := .array .int) (C := RX0) (T := TX0) (N := 11) hx hb hts in_X0 tyX0 tyX0_ok nmX0 hown hK hP hD hS 0 rfl rfl 3 (by decide) (hts _ q29) (fun _ h9 => h9) rfl hin rfl (by decide +kernel) rfl rfl (Nat.le_of_ble_eq_true rfl) dX0_init_33 (fun H locs hP hD hS => ?_)
  have hP : va_P D vwCl [(h, .inr (0, [.ref a0, .ref a1, .ref a2, .ref a3, .null, .null, .int (nI 0), .null, .null, .null, .int (nI 0)])), (a0, .inl (c0_, 16, .inl (fun _ => nI 0))), (a1, .inl (c0_, 16, .inl (fun _ => nI 0))), (a2, .inl (c0_, 16, .inl (fun _ => nI 0))), (a3, .inl (c0_, 64, .inl (fun _ => nI 0)))] H := hP
  have hD : va_D A [(h, .inr (0, [.ref a0, .ref a1, .ref a2, .ref a3, .null, .null, .int (nI 0), .null, .null, .null, .int (nI 0)])), (a0, .inl (c0_, 16, .inl (fun _ => nI 0))), (a1, .inl (c0_, 16, .inl (fun _ => nI 0))), (a2, .inl (c0_, 16, .inl (fun _ => nI 0))), (a3, .inl (c0_, 64, .inl (fun _ => nI 0)))] := hD
  refine lv_aload_n hx hb dX0_init_36 rfl (lv_at hl 0 rfl) ?_
  refine lv_bipush (v := nI 64) hx hb dX0_init_37 (by decide) ?_
  refine va_newa (atype := .boolean) (ty := .boolean) hx hb (hts _ q61) rfl hK hP hD hS hA (n := nI 64) (N' := 64) (a0 := (64, .inl (fun _ => nI 0))) (fun _ => rfl) (by decide) (by decide) (by decide) (Nat.le_of_ble_eq_true rfl) (Nat.le_of_ble_eq_true rfl) dX0_init_39 (fun a4 c4_ H hK hP hD hS => ?_)
  have hK : va_K D vwCl [(c0_, .int), (c4_, .boolean)] s := hK
  have hP : va_P D vwCl [(h, .inr (0, [.ref a0, .ref a1, .ref a2, .ref a3, .null, .null, .int (nI 0), .null, .null, .null, .int (nI 0)])), (a0, .inl (c0_, 16, .inl (fun _ => nI 0))), (a1, .inl (c0_, 16, .inl (fun _ => nI 0))), (a2, .inl (c0_, 16, .inl (fun _ => nI 0))), (a3, .inl (c0_, 64, .inl (fun _ => nI 0))), (a4, .inl (c4_, 64, .inl (fun _ => nI 0)))] H := hP
  have hD : va_D A [(h, .inr (0, [.ref a0, .ref a1, .ref a2, .ref a3, .null, .null, .int (nI 0), .null, .null, .null, .int (nI 0)])), (a0, .inl (c0_, 16, .inl (fun _ => nI 0))), (a1, .inl (c0_, 16, .inl (fun _ => nI 0))), (a2, .inl (c0_, 16, .inl (fun _ => nI 0))), (a3, .inl (c0_, 64, .inl (fun _ => nI 0))), (a4, .inl (c4_, 64, .inl (fun _ => nI 0)))] := hD
  refine va_putF (D := D) (ci := 0) (v := .ref a4) (ty := .array .boolean) (C := RX0) (T := TX0) (N := 11) hx hb hts in_X0 tyX0 tyX0_ok nmX0 hown hK hP hD hS 0 rfl rfl 4 (by decide) (hts _ q30) (fun _ h9 => h9) rfl hin rfl (by decide +kernel) rfl rfl (Nat.le_of_ble_eq_true rfl) dX0_init_41 (fun H locs hP hD hS => ?_)
  have hP : va_P D vwCl [(h, .inr (0, [.ref a0, .ref a1, .ref a2, .ref a3, .ref a4, .null, .int (nI 0), .null, .null, .null, .int (nI 0)])), (a0, .inl (c0_, 16, .inl (fun _ => nI 0))), (a1, .inl (c0_, 16, .inl (fun _ => nI 0))), (a2, .inl (c0_, 16, .inl (fun _ => nI 0))), (a3, .inl (c0_, 64, .inl (fun _ => nI 0))), (a4, .inl (c4_, 64, .inl (fun _ => nI 0)))] H := hP
  have hD : va_D A [(h, .inr (0, [.ref a0, .ref a1, .ref a2, .ref a3, .ref a4, .null, .int (nI 0), .null, .null, .null, .int (nI 0)])), (a0, .inl (c0_, 16, .inl (fun _ => nI 0))), (a1, .inl (c0_, 16, .inl (fun _ => nI 0))), (a2, .inl (c0_, 16, .inl (fun _ => nI 0))), (a3, .inl (c0_, 64, .inl (fun _ => nI 0))), (a4, .inl (c4_, 64, .inl (fun _ => nI 0)))] := hD
  refine lv_aload_n hx hb dX0_init_44 rfl (lv_at hl 0 rfl) ?_
  refine lv_sipush (v := nI 256) hx hb dX0_init_45 (by decide) ?_
  refine va_newa (atype := .byte) (ty := .byte) hx hb (hts _ q62) rfl hK hP hD hS hA (n := nI 256) (N' := 256) (a0 := (256, .inl (fun _ => nI 0))) (fun _ => rfl) (by decide) (by decide) (by decide) (Nat.le_of_ble_eq_true rfl) (Nat.le_of_ble_eq_true rfl) dX0_init_48 (fun a5 c5_ H hK hP hD hS => ?_)
  have hK : va_K D vwCl [(c0_, .int), (c4_, .boolean), (c5_, .byte)] s := hK
  have hP : va_P D vwCl [(h, .inr (0, [.ref a0, .ref a1, .ref a2, .ref a3, .ref a4, .null, .int (nI 0), .null, .null, .null, .int (nI 0)])), (a0, .inl (c0_, 16, .inl (fun _ => nI 0))), (a1, .inl (c0_, 16, .inl (fun _ => nI 0))), (a2, .inl (c0_, 16, .inl (fun _ => nI 0))), (a3, .inl (c0_, 64, .inl (fun _ => nI 0))), (a4, .inl (c4_, 64, .inl (fun _ => nI 0))), (a5, .inl (c5_, 256, .inl (fun _ => nI 0)))] H := hP
  have hD : va_D A [(h, .inr (0, [.ref a0, .ref a1, .ref a2, .ref a3, .ref a4, .null, .int (nI 0), .null, .null, .null, .int (nI 0)])), (a0, .inl (c0_, 16, .inl (fun _ => nI 0))), (a1, .inl (c0_, 16, .inl (fun _ => nI 0))), (a2, .inl (c0_, 16, .inl (fun _ => nI 0))), (a3, .inl (c0_, 64, .inl (fun _ => nI 0))), (a4, .inl (c4_, 64, .inl (fun _ => nI 0))), (a5, .inl (c5_, 256, .inl (fun _ => nI 0)))] := hD
  refine va_putF (D := D) (ci := 0) (v := .ref a5) (ty := .array .byte) (C := RX0) (T := TX0) (N := 11) hx hb hts in_X0 tyX0 tyX0_ok nmX0 hown hK hP hD hS 0 rfl rfl 5 (by decide) (hts _ q31) (fun _ h9 => h9) rfl hin rfl (by decide +kernel) rfl rfl (Nat.le_of_ble_eq_true rfl) dX0_init_50 (fun H locs hP hD hS => ?_)
  have hP : va_P D vwCl [(h, .inr (0, [.ref a0, .ref a1, .ref a2, .ref a3, .ref a4, .ref a5, .int (nI 0), .null, .null, .null, .int (nI 0)])), (a0, .inl (c0_, 16, .inl (fun _ => nI 0))), (a1, .inl (c0_, 16, .inl (fun _ => nI 0))), (a2, .inl (c0_, 16, .inl (fun _ => nI 0))), (a3, .inl (c0_, 64, .inl (fun _ => nI 0))), (a4, .inl (c4_, 64, .inl (fun _ => nI 0))), (a5, .inl (c5_, 256, .inl (fun _ => nI 0)))] H := hP
  have hD : va_D A [(h, .inr (0, [.ref a0, .ref a1, .ref a2, .ref a3, .ref a4, .ref a5, .int (nI 0), .null, .null, .null, .int (nI 0)])), (a0, .inl (c0_, 16, .inl (fun _ => nI 0))), (a1, .inl (c0_, 16, .inl (fun _ => nI 0))), (a2, .inl (c0_, 16, .inl (fun _ => nI 0))), (a3, .inl (c0_, 64, .inl (fun _ => nI 0))), (a4, .inl (c4_, 64, .inl (fun _ => nI 0))), (a5, .inl (c5_, 256, .inl (fun _ => nI 0)))] := hD
  refine lv_aload_n hx hb dX0_init_53 rfl (lv_at hl 0 rfl) ?_
  refine lv_sipush (v := nI 256) hx hb dX0_init_54 (by decide) ?_
  refine va_newa (atype := .int) (ty := .int) hx hb (hts _ q60) rfl hK hP hD hS hA (n := nI 256) (N' := 256) (a0 := (256, .inl (fun _ => nI 0))) (fun _ => rfl) (by decide) (by decide) (by decide) (Nat.le_of_ble_eq_true rfl) (Nat.le_of_ble_eq_true rfl) dX0_init_57 (fun a6 c6_ H hK hP hD hS => ?_)
  have ec : c0_ = c6_ := Eq.symm <| st_same (Or.inl rfl) (hK.2 0 _ rfl).2 (hK.2 3 _ rfl).2
  subst ec
  have hK := hK.sub (tys' := [(c0_, .int), (c4_, .boolean), (c5_, .byte)]) [0, 1, 2] rfl
  have hP : va_P D vwCl [(h, .inr (0, [.ref a0, .ref a1, .ref a2, .ref a3, .ref a4, .ref a5, .int (nI 0), .null, .null, .null, .int (nI 0)])), (a0, .inl (c0_, 16, .inl (fun _ => nI 0))), (a1, .inl (c0_, 16, .inl (fun _ => nI 0))), (a2, .inl (c0_, 16, .inl (fun _ => nI 0))), (a3, .inl (c0_, 64, .inl (fun _ => nI 0))), (a4, .inl (c4_, 64, .inl (fun _ => nI 0))), (a5, .inl (c5_, 256, .inl (fun _ => nI 0))), (a6, .inl (c0_, 256, .inl (fun _ => nI 0)))] H := hP
  have hD : va_D A [(h, .inr (0, [.ref a0, .ref a1, .ref a2, .ref a3, .ref a4, .ref a5, .int (nI 0), .null, .null, .null, .int (nI 0)])), (a0, .inl (c0_, 16, .inl (fun _ => nI 0))), (a1, .inl (c0_, 16, .inl (fun _ => nI 0))), (a2, .inl (c0_, 16, .inl (fun _ => nI 0))), (a3, .inl (c0_, 64, .inl (fun _ => nI 0))), (a4, .inl (c4_, 64, .inl (fun _ => nI 0))), (a5, .inl (c5_, 256, .inl (fun _ => nI 0))), (a6, .inl (c0_, 256, .inl (fun _ => nI 0)))] := hD
  refine va_putF (D := D) (ci := 0) (v := .ref a6) (ty := .array .int) (C := RX0) (T := TX0) (N := 11) hx hb hts in_X0 tyX0 tyX0_ok nmX0 hown hK hP hD hS 0 rfl rfl 7 (by decide) (hts _ q33) (fun _ h9 => h9) rfl hin rfl (by decide +kernel) rfl rfl (Nat.le_of_ble_eq_true rfl) dX0_init_59 (fun H locs hP hD hS => ?_)
  have hP : va_P D vwCl [(h, .inr (0, [.ref a0, .ref a1, .ref a2, .ref a3, .ref a4, .ref a5, .int (nI 0), .ref a6, .null, .null, .int (nI 0)])), (a0, .inl (c0_, 16, .inl (fun _ => nI 0))), (a1, .inl (c0_, 16, .inl (fun _ => nI 0))), (a2, .inl (c0_, 16, .inl (fun _ => nI 0))), (a3, .inl (c0_, 64, .inl (fun _ => nI 0))), (a4, .inl (c4_, 64, .inl (fun _ => nI 0))), (a5, .inl (c5_, 256, .inl (fun _ => nI 0))), (a6, .inl (c0_, 256, .inl (fun _ => nI 0)))] H := hP
  have hD : va_D A [(h, .inr (0, [.ref a0, .ref a1, .ref a2, .ref a3, .ref a4, .ref a5, .int (nI 0), .ref a6, .null, .null, .int (nI 0)])), (a0, .inl (c0_, 16, .inl (fun _ => nI 0))), (a1, .inl (c0_, 16, .inl (fun _ => nI 0))), (a2, .inl (c0_, 16, .inl (fun _ => nI 0))), (a3, .inl (c0_, 64, .inl (fun _ => nI 0))), (a4, .inl (c4_, 64, .inl (fun _ => nI 0))), (a5, .inl (c5_, 256, .inl (fun _ => nI 0))), (a6, .inl (c0_, 256, .inl (fun _ => nI 0)))] := hD
  refine lv_aload_n hx hb dX0_init_62 rfl (lv_at hl 0 rfl) ?_
  refine lv_sipush (v := nI 256) hx hb dX0_init_63 (by decide) ?_
  refine va_newa (atype := .int) (ty := .int) hx hb (hts _ q60) rfl hK hP hD hS hA (n := nI 256) (N' := 256) (a0 := (256, .inl (fun _ => nI 0))) (fun _ => rfl) (by decide) (by decide) (by decide) (Nat.le_of_ble_eq_true rfl) (Nat.le_of_ble_eq_true rfl) dX0_init_66 (fun a7 c7_ H hK hP hD hS => ?_)
  have ec : c0_ = c7_ := Eq.symm <| st_same (Or.inl rfl) (hK.2 0 _ rfl).2 (hK.2 3 _ rfl).2
  subst ec
  have hK := hK.sub (tys' := [(c0_, .int), (c4_, .boolean), (c5_, .byte)]) [0, 1, 2] rfl
  have hP : va_P D vwCl [(h, .inr (0, [.ref a0, .ref a1, .ref a2, .ref a3, .ref a4, .ref a5, .int (nI 0), .ref a6, .null, .null, .int (nI 0)])), (a0, .inl (c0_, 16, .inl (fun _ => nI 0))), (a1, .inl (c0_, 16, .inl (fun _ => nI 0))), (a2, .inl (c0_, 16, .inl (fun _ => nI 0))), (a3, .inl (c0_, 64, .inl (fun _ => nI 0))), (a4, .inl (c4_, 64, .inl (fun _ => nI 0))), (a5, .inl (c5_, 256, .inl (fun _ => nI 0))), (a6, .inl (c0_, 256, .inl (fun _ => nI 0))), (a7, .inl (c0_, 256, .inl (fun _ => nI 0)))] H := hP
  have hD : va_D A [(h, .inr (0, [.ref a0, .ref a1, .ref a2, .ref a3, .ref a4, .ref a5, .int (nI 0), .ref a6, .null, .null, .int (nI 0)])), (a0, .inl (c0_, 16, .inl (fun _ => nI 0))), (a1, .inl (c0_, 16, .inl (fun _ => nI 0))), (a2, .inl (c0_, 16, .inl (fun _ => nI 0))), (a3, .inl (c0_, 64, .inl (fun _ => nI 0))), (a4, .inl (c4_, 64, .inl (fun _ => nI 0))), (a5, .inl (c5_, 256, .inl (fun _ => nI 0))), (a6, .inl (c0_, 256, .inl (fun _ => nI 0))), (a7, .inl (c0_, 256, .inl (fun _ => nI 0)))] := hD
  refine va_putF (D := D) (ci := 0) (v := .ref a7) (ty := .array .int) (C := RX0) (T := TX0) (N := 11) hx hb hts in_X0 tyX0 tyX0_ok nmX0 hown hK hP hD hS 0 rfl rfl 8 (by decide) (hts _ q34) (fun _ h9 => h9) rfl hin rfl (by decide +kernel) rfl rfl (Nat.le_of_ble_eq_true rfl) dX0_init_68 (fun H locs hP hD hS => ?_)
  have hP : va_P D vwCl [(h, .inr (0, [.ref a0, .ref a1, .ref a2, .ref a3, .ref a4, .ref a5, .int (nI 0), .ref a6, .ref a7, .null, .int (nI 0)])), (a0, .inl (c0_, 16, .inl (fun _ => nI 0))), (a1, .inl (c0_, 16, .inl (fun _ => nI 0))), (a2, .inl (c0_, 16, .inl (fun _ => nI 0))), (a3, .inl (c0_, 64, .inl (fun _ => nI 0))), (a4, .inl (c4_, 64, .inl (fun _ => nI 0))), (a5, .inl (c5_, 256, .inl (fun _ => nI 0))), (a6, .inl (c0_, 256, .inl (fun _ => nI 0))), (a7, .inl (c0_, 256, .inl (fun _ => nI 0)))] H := hP
  have hD : va_D A [(h, .inr (0, [.ref a0, .ref a1, .ref a2, .ref a3, .ref a4, .ref a5, .int (nI 0), .ref a6, .ref a7, .null, .int (nI 0)])), (a0, .inl (c0_, 16, .inl (fun _ => nI 0))), (a1, .inl (c0_, 16, .inl (fun _ => nI 0))), (a2, .inl (c0_, 16, .inl (fun _ => nI 0))), (a3, .inl (c0_, 64, .inl (fun _ => nI 0))), (a4, .inl (c4_, 64, .inl (fun _ => nI 0))), (a5, .inl (c5_, 256, .inl (fun _ => nI 0))), (a6, .inl (c0_, 256, .inl (fun _ => nI 0))), (a7, .inl (c0_, 256, .inl (fun _ => nI 0)))] := hD
  refine lv_aload_n hx hb dX0_init_71 rfl (lv_at hl 0 rfl) ?_
  refine lv_sipush (v := nI 256) hx hb dX0_init_72 (by decide) ?_
  refine va_newa (atype := .boolean) (ty := .boolean) hx hb (hts _ q61) rfl hK hP hD hS hA (n := nI 256) (N' := 256) (a0 := (256, .inl (fun _ => nI 0))) (fun _ => rfl) (by decide) (by decide) (by decide) (Nat.le_of_ble_eq_true rfl) (Nat.le_of_ble_eq_true rfl) dX0_init_75 (fun a8 c8_ H hK hP hD hS => ?_)
  have ec : c4_ = c8_ := Eq.symm <| st_same (Or.inr rfl) (hK.2 1 _ rfl).2 (hK.2 3 _ rfl).2
  subst ec
  have hK := hK.sub (tys' := [(c0_, .int), (c4_, .boolean), (c5_, .byte)]) [0, 1, 2] rfl
  have hP : va_P D vwCl [(h, .inr (0, [.ref a0, .ref a1, .ref a2, .ref a3, .ref a4, .ref a5, .int (nI 0), .ref a6, .ref a7, .null, .int (nI 0)])), (a0, .inl (c0_, 16, .inl (fun _ => nI 0))), (a1, .inl (c0_, 16, .inl (fun _ => nI 0))), (a2, .inl (c0_, 16, .inl (fun _ => nI 0))), (a3, .inl (c0_, 64, .inl (fun _ => nI 0))), (a4, .inl (c4_, 64, .inl (fun _ => nI 0))), (a5, .inl (c5_, 256, .inl (fun _ => nI 0))), (a6, .inl (c0_, 256, .inl (fun _ => nI 0))), (a7, .inl (c0_, 256, .inl (fun _ => nI 0))), (a8, .inl (c4_, 256, .inl (fun _ => nI 0)))] H := hP
  have hD : va_D A [(h, .inr (0, [.ref a0, .ref a1, .ref a2, .ref a3, .ref a4, .ref a5, .int (nI 0), .ref a6, .ref a7, .null, .int (nI 0)])), (a0, .inl (c0_, 16, .inl (fun _ => nI 0))), (a1, .inl (c0_, 16, .inl (fun _ => nI 0))), (a2, .inl (c0_, 16, .inl (fun _ => nI 0))), (a3, .inl (c0_, 64, .inl (fun _ => nI 0))), (a4, .inl (c4_, 64, .inl (fun _ => nI 0))), (a5, .inl (c5_, 256, .inl (fun _ => nI 0))), (a6, .inl (c0_, 256, .inl (fun _ => nI 0))), (a7, .inl (c0_, 256, .inl (fun _ => nI 0))), (a8, .inl (c4_, 256, .inl (fun _ => nI 0)))] := hD
  refine va_putF (D := D) (ci := 0) (v := .ref a8) (ty := .array .boolean) (C := RX0) (T := TX0) (N := 11) hx hb hts in_X0 tyX0 tyX0_ok nmX0 hown hK hP hD hS 0 rfl rfl 9 (by decide) (hts _ q35) (fun _ h9 => h9) rfl hin rfl (by decide +kernel) rfl rfl (Nat.le_of_ble_eq_true rfl) dX0_init_77 (fun H locs hP hD hS => ?_)
  have hP : va_P D vwCl [(h, .inr (0, [.ref a0, .ref a1, .ref a2, .ref a3, .ref a4, .ref a5, .int (nI 0), .ref a6, .ref a7, .ref a8, .int (nI 0)])), (a0, .inl (c0_, 16, .inl (fun _ => nI 0))), (a1, .inl (c0_, 16, .inl (fun _ => nI 0))), (a2, .inl (c0_, 16, .inl (fun _ => nI 0))), (a3, .inl (c0_, 64, .inl (fun _ => nI 0))), (a4, .inl (c4_, 64, .inl (fun _ => nI 0))), (a5, .inl (c5_, 256, .inl (fun _ => nI 0))), (a6, .inl (c0_, 256, .inl (fun _ => nI 0))), (a7, .inl (c0_, 256, .inl (fun _ => nI 0))), (a8, .inl (c4_, 256, .inl (fun _ => nI 0)))] H := hP
  have hD : va_D A [(h, .inr (0, [.ref a0, .ref a1, .ref a2, .ref a3, .ref a4, .ref a5, .int (nI 0), .ref a6, .ref a7, .ref a8, .int (nI 0)])), (a0, .inl (c0_, 16, .inl (fun _ => nI 0))), (a1, .inl (c0_, 16, .inl (fun _ => nI 0))), (a2, .inl (c0_, 16, .inl (fun _ => nI 0))), (a3, .inl (c0_, 64, .inl (fun _ => nI 0))), (a4, .inl (c4_, 64, .inl (fun _ => nI 0))), (a5, .inl (c5_, 256, .inl (fun _ => nI 0))), (a6, .inl (c0_, 256, .inl (fun _ => nI 0))), (a7, .inl (c0_, 256, .inl (fun _ => nI 0))), (a8, .inl (c4_, 256, .inl (fun _ => nI 0)))] := hD
  refine W.widen (k := 9) (n := 1200) (Nat.le_of_ble_eq_true rfl) (Nat.le_of_ble_eq_true rfl) ?_
  obtain ⟨ad, e0, e1, e2, e3, e4, e5, e6, e7, e8⟩ : ∃ ad : Nat → Nat, ad 0 = a0 ∧ ad 1 = a1 ∧ ad 2 = a2 ∧ ad 3 = a3 ∧ ad 4 = a4 ∧ ad 5 = a5 ∧ ad 6 = a6 ∧ ad 7 = a7 ∧ ad 8 = a8 := ⟨fun j => match j with | 0 => a0 | 1 => a1 | 2 => a2 | 3 => a3 | 4 => a4 | 5 => a5 | 6 => a6 | 7 => a7 | _ => a8, rfl, rfl, rfl, rfl, rfl, rfl, rfl, rfl, rfl⟩
  subst e0 e1 e2 e3 e4 e5 e6 e7 e8
  obtain ⟨k, ek0, ek1, ek2⟩ : ∃ k : Nat → ClassId, k 0 = c0_ ∧ k 1 = c4_ ∧ k 2 = c5_ := ⟨fun j => match j with | 0 => c0_ | 1 => c4_ | _ => c5_, rfl, rfl, rfl⟩
  subst ek0 ek1 ek2
  have hw : st_W D A s.heap (w0 h ad k (fun _ => 0, fun _ => 0, fun _ => 0, fun _ => some 0, fun _ => false) (fun _ => 0, (0, fun _ => 0, fun _ => some 0, fun _ => false), some 0)) H locs := ⟨hP, hD, hS⟩
  have E : st_E p s m c cX0_init 2 _ RX0 D (ty0 k) := ⟨hx, hb, hml, hown, hts, hK⟩
  refine lv_iconst (v := nI 0) hx hb dX0_init_80 (by decide) ?_
  refine lv_istore_n (lv' := [(1, .int (nI 0)), (0, .ref h)]) hx hb dX0_init_81 rfl hl (by decide) rfl (fun ls hl => ?_)
  have hw : st_W D A s.heap (w0 h ad k (fun _ => 0, fun _ => 0, fun _ => 0, st_fl none (fun _ => some 0 : Nat → Option Nat) 0, fun _ => false) (fun _ => 0, (0, fun _ => 0, fun _ => some 0, fun _ => false), some 0)) H locs := by rw [st_fl_0]; exact hw
  refine st_loop (σ := Nat) (fun x H locs ls => st_W D A s.heap (w0 h ad k (fun _ => 0, fun _ => 0, fun _ => 0, st_fl none (fun _ => some 0 : Nat → Option Nat) x, fun _ => false) (fun _ => 0, (0, fun _ => 0, fun _ => some 0, fun _ => false), some 0)) H locs ∧ lv_has ls 2 [(0, .ref h), (1, .int (nI x))] ∧ x ≤ 64) (fun x => 65 - x) (fun i H locs ls hJ ih => ?_) 0 ⟨hw, lv_sub hl [1, 0] rfl, by omega⟩
  have hw : st_W D A s.heap (w0 h ad k (fun _ => 0, fun _ => 0, fun _ => 0, st_fl none (fun _ => some 0 : Nat → Option Nat) i, fun _ => false) (fun _ => 0, (0, fun _ => 0, fun _ => some 0, fun _ => false), some 0)) H locs := hJ.1
  have hl : lv_has ls 2 [(0, .ref h), (1, .int (nI i))] := hJ.2.1
  have hI : i ≤ 64 := hJ.2.2
  clear hJ
  refine lv_iload_n hx hb dX0_init_82 rfl (lv_at hl 1 rfl) ?_
  refine lv_bipush (v := nI 64) hx hb dX0_init_83 (by decide) ?_
  refine st_icge (tgt := 101) hx hb dX0_init_85 (by decide) (by omega) (by omega) (fun hc => ?_) (fun hc => ?_)
  · have hw := hw.norm 4 rfl (fun j => st_o ((fun _ => none : Nat → Option Nat) j)) (fun j hj => by show st_o (st_fl none (fun _ => some 0 : Nat → Option Nat) i j) = st_o none; rw [st_fl_e (by omega)])
    have hw : st_W D A s.heap (w0 h ad k (fun _ => 0, fun _ => 0, fun _ => 0, fun _ => none, fun _ => false) (fun _ => 0, (0, fun _ => 0, fun _ => some 0, fun _ => false), some 0)) H locs := hw
    exact W.vret hx hb hr (fun t ht hW => ⟨⟨(ad, k), rfl, trivial, by rw [ht]; exact hw.1, va_K.moved hW.alike hK, hw.2.1⟩, hw.2.2.F ht⟩) hw.2.2.2.2 dX0_init_101
  · refine lv_aload_n hx hb dX0_init_88 rfl (lv_at hl 0 rfl) ?_
    refine st_get0 E hw rfl 3 (by decide) q29 (v := .ref (ad 3)) rfl dX0_init_89 ?_
    refine lv_iload_n hx hb dX0_init_92 rfl (lv_at hl 1 rfl) ?_
    refine lv_iconst (v := st_o none) hx hb dX0_init_93 (by decide) ?_
    refine st_iast E hw 4 0 rfl rfl (i := i) (by omega) (by decide) (fun j => st_o ((st_fl none (fun _ => some 0 : Nat → Option Nat) (i + 1)) j)) (fun j => st_fl_s (v := none) (f := (fun _ => some 0 : Nat → Option Nat)) (i := i) st_o j) dX0_init_94 (fun H locs (hw : st_W D A s.heap (w0 h ad k (fun _ => 0, fun _ => 0, fun _ => 0, st_fl none (fun _ => some 0 : Nat → Option Nat) (i + 1), fun _ => false) (fun _ => 0, (0, fun _ => 0, fun _ => some 0, fun _ => false), some 0)) H locs) => ?_)
    refine lv_iinc (v := nI (i + 1)) (lv' := [(1, .int (nI (i + 1))), (0, .ref h)]) hx hb dX0_init_95 hl (k := 1) rfl (st_inc _) (by decide) rfl (fun ls hl => ?_)
    refine lv_goto (tgt := 82) hx hb dX0_init_98 (by decide) ?_
    exact ih (i + 1) _ _ _ ⟨hw, lv_sub hl [1, 0] rfl, by omega⟩ (by show 65 - (i + 1) < 65 - i; omega)
set_option maxHeartbeats 4000000 in
set_option maxRecDepth 100000 in
/-- StructuralTypesModel() -/
theorem mX1_init (l : Launch) (D : va_G) (A : Nat → Prop) (h : Nat) : Met l yX1_init (ws_ yX1_init cX1_init 1 none) ({ frames := 1, cells := 6, slots := 432, locals := 12 }) (va_Pc [.ref h] (fun U => (∀ q, U.heap.size ≤ q → A q) ∧ st_I D A [(h, .inr (1, [.null, .null, .null, .null, .null, .int (nI 0), .null]))] [] U)) (va_Qv (fun (_ : (Nat → Nat) × (Nat → ClassId)) => True) (fun u t => st_I D A (w1 h u.1 u.2 st_M0 st_v0) (ty1 u.2) t) A) 6 432 A := by
  refine Met.ofW (cc := cX1_init) (maxL := 1) (ret := none) (by decide) rfl ?_
  intro p e s m args below meth c s₁ B hml hv
  obtain ⟨rfl, hA, hP, hK, hD⟩ := hv
  have hx := B.exec
  have hb := B.bytes
  have hr := B.returns
  have hts := atoms_spec (ws := ws_ yX1_init cX1_init 1 none) B.pre
  have hts : ∀ w ∈ lw_all, w.before _ s = true := fun w h => hts w (List.mem_cons_of_mem _ h)
  have hown : s.vm.findClass RX1 = some m.cls := findClass_of_methodNamed B.named
  have hlk := B.notSynchronized
  have hin : meth.name = "<init>" := (name_of_methodNamed B.named B.method).1
  have hS : va_S A s.heap s.heap [] := va_S.rf
  have hl := lv_entry ([.ref h]) (n := 1) (Nat.le_of_ble_eq_true rfl)
  rw [lg_entry_eq]
  generalize (lg_sl ([.ref h]) ++ List.replicate (1 - (lg_sl ([.ref h])).length) Slot.unset).toArray = ls at hl ⊢
  have hl : lv_has ls 1 [(0, .ref h)] := hl
  refine lv_aload_n hx hb dX1_init_0 rfl (lv_at hl 0 rfl) ?_
  refine W.objInit hx hb hown (hts _ q147) (hts _ q24) (hts _ q25) rfl (by rw [hml]; exact hl.1) rfl dX1_init_1 (Nat.le_of_ble_eq_true rfl) (Nat.le_of_ble_eq_true rfl) ?_
  refine W.eq (g2 := F0 m 4 ls []) rfl ?_
  refine lv_aload_n hx hb dX1_init_4 rfl (lv_at hl 0 rfl) ?_
  refine lv_bipush (v := nI 16) hx hb dX1_init_5 (by decide) ?_
  refine va_newa (atype := .int) (ty := .int) hx hb (hts _ q60) rfl hK hP hD hS hA (n := nI 16) (N' := 16) (a0 := (16, .inl (fun _ => nI 0))) (fun _ => rfl) (by decide) (by decide) (by decide) (Nat.le_of_ble_eq_true rfl) (Nat.le_of_ble_eq_true rfl) dX1_init_7 (fun a0 c0_ H hK hP hD hS => ?_)
  have hK : va_K D vwCl [(c0_, .int)] s := hK
  have hP : va_P D vwCl [(h, .inr (1, [.null, .null, .null, .null, .null, .int (nI 0), .null])), (a0, .inl (c0_, 16, .inl (fun _ => nI 0)))] H := hP
  have hD : va_D A [(h, .inr (1, [.null, .null, .null, .null, .null, .int (nI 0), .null])), (a0, .inl (c0_, 16, .inl (fun _ => nI 0)))] := hD
  refine va_putF (D := D) (ci := 1) (v := .ref a0) (ty := .array .int) (C := RX1) (T := TX1) (N := 7) hx hb hts in_X1 tyX1 tyX1_ok nmX1 hown hK hP hD hS 0 rfl rfl 0 (by decide) (hts _ q148) (fun _ h9 => h9) rfl hin rfl (by decide +kernel) rfl rfl (Nat.le_of_ble_eq_true rfl) dX1_init_9 (fun H locs hP hD hS => ?_)
  have hP : va_P D vwCl [(h, .inr (1, [.ref a0, .null, .null, .null, .null, .int (nI 0), .null])), (a0, .inl (c0_, 16, .inl (fun _ => nI 0)))] H := hP
  have hD : va_D A [(h, .inr (1, [.ref a0, .null, .null, .null, .null, .int (nI 0), .null])), (a0, .inl (c0_, 16, .inl (fun _ => nI 0)))] := hD
  refine lv_aload_n hx hb dX1_init_12 rfl (lv_at hl 0 rfl) ?_
  refine lv_bipush (v := nI 16) hx hb dX1_init_13 (by decide) ?_
  refine va_newa (atype := .int) (ty := .int) hx hb (hts _ q60) rfl hK hP hD hS hA (n := nI 16) (N' := 16) (a0 := (16, .inl (fun _ => nI 0))) (fun _ => rfl) (by decide) (by decide) (by decide) (Nat.le_of_ble_eq_true rfl) (Nat.le_of_ble_eq_true rfl) dX1_init_15 (fun a1 c1_ H hK hP hD hS => ?_)
  have ec : c0_ = c1_ := Eq.symm <| st_same (Or.inl rfl) (hK.2 0 _ rfl).2 (hK.2 1 _ rfl).2
  subst ec
  have hK := hK.sub (tys' := [(c0_, .int)]) [0] rfl
  have hP : va_P D vwCl [(h, .inr (1, [.ref a0, .null, .null, .null, .null, .int (nI 0), .null])), (a0, .inl (c0_, 16, .inl (fun _ => nI 0))), (a1, .inl (c0_, 16, .inl (fun _ => nI 0)))] H := hP
  have hD : va_D A [(h, .inr (1, [.ref a0, .null, .null, .null, .null, .int (nI 0), .null])), (a0, .inl (c0_, 16, .inl (fun _ => nI 0))), (a1, .inl (c0_, 16, .inl (fun _ => nI 0)))] := hD
  refine va_putF (D := D) (ci := 1) (v := .ref a1) (ty := .array .int) (C := RX1) (T := TX1) (N := 7) hx hb hts in_X1 tyX1 tyX1_ok nmX1 hown hK hP hD hS 0 rfl rfl 1 (by decide) (hts _ q149) (fun _ h9 => h9) rfl hin rfl (by decide +kernel) rfl rfl (Nat.le_of_ble_eq_true rfl) dX1_init_17 (fun H locs hP hD hS => ?_)
  have hP : va_P D vwCl [(h, .inr (1, [.ref a0, .ref a1, .null, .null, .null, .int (nI 0), .null])), (a0, .inl (c0_, 16, .inl (fun _ => nI 0))), (a1, .inl (c0_, 16, .inl (fun _ => nI 0)))] H := hP
  have hD : va_D A [(h, .inr (1, [.ref a0, .ref a1, .null, .null, .null, .int (nI 0), .null])), (a0, .inl (c0_, 16, .inl (fun _ => nI 0))), (a1, .inl (c0_, 16, .inl (fun _ => nI 0)))] := hD
  refine lv_aload_n hx hb dX1_init_20 rfl (lv_at hl 0 rfl) ?_
  refine lv_bipush (v := nI 16) hx hb dX1_init_21 (by decide) ?_
  refine va_newa (atype := .int) (ty := .int) hx hb (hts _ q60) rfl hK hP hD hS hA (n := nI 16) (N' := 16) (a0 := (16, .inl (fun _ => nI 0))) (fun _ => rfl) (by decide) (by decide) (by decide) (Nat.le_of_ble_eq_true rfl) (Nat.le_of_ble_eq_true rfl) dX1_init_23 (fun a2 c2_ H hK hP hD hS => ?_)
  have ec : c0_ = c2_ := Eq.symm <| st_same (Or.inl rfl) (hK.2 0 _ rfl).2 (hK.2 1 _ rfl).2
  subst ec
  have hK := hK.sub (tys' := [(c0_, .int)]) [0] rfl
  have hP : va_P D vwCl [(h, .inr (1, [.ref a0, .ref a1, .null, .null, .null, .int (nI 0), .null])), (a0, .inl (c0_, 16, .inl (fun _ => nI 0))), (a1, .inl (c0_, 16, .inl (fun _ => nI 0))), (a2, .inl (c0_, 16, .inl (fun _ => nI 0)))] H := hP
  have hD : va_D A [(h, .inr (1, [.ref a0, .ref a1, .null, .null, .null, .int (nI 0), .null])), (a0, .inl (c0_, 16, .inl (fun _ => nI 0))), (a1, .inl (c0_, 16, .inl (fun _ => nI 0))), (a2, .inl (c0_, 16, .inl (fun _ => nI 0)))] := hD
  refine va_putF (D := D) (ci := 1) (v := .ref a2) (ty := .array .int) (C := RX1) (T := TX1) (N := 7) hx hb hts in_X1 tyX1 tyX1_ok nmX1 hown hK hP hD hS 0 rfl rfl 2 (by decide) (hts _ q150) (fun _ h9 => h9) rfl hin rfl (by decide +kernel) rfl rfl (Nat.le_of_ble_eq_true rfl) dX1_init_25 (fun H locs hP hD hS => ?_)
  have hP : va_P D vwCl [(h, .inr (1, [.ref a0, .ref a1, .ref a2, .null, .null, .int (nI 0), .null])), (a0, .inl (c0_, 16, .inl (fun _ => nI 0))), (a1, .inl (c0_, 16, .inl (fun _ => nI 0))), (a2, .inl (c0_, 16, .inl (fun _ => nI 0)))] H := hP
  have hD : va_D A [(h, .inr (1, [.ref a0, .ref a1, .ref a2, .null, .null, .int (nI 0), .null])), (a0, .inl (c0_, 16, .inl (fun _ => nI 0))), (a1, .inl (c0_, 16, .inl (fun _ => nI 0))), (a2, .inl (c0_, 16, .inl (fun _ => nI 0)))] := hD
  refine lv_aload_n hx hb dX1_init_28 rfl (lv_at hl 0 rfl) ?_
  refine lv_bipush (v := nI 64) hx hb dX1_init_29 (by decide) ?_
  refine va_newa (atype := .int) (ty := .int) hx hb (hts _ q60) rfl hK hP hD hS hA (n := nI 64) (N' := 64) (a0 := (64, .inl (fun _ => nI 0))) (fun _ => rfl) (by decide) (by decide) (by decide) (Nat.le_of_ble_eq_true rfl) (Nat.le_of_ble_eq_true rfl) dX1_init_31 (fun a3 c3_ H hK hP hD hS => ?_)
  have ec : c0_ = c3_ := Eq.symm <| st_same (Or.inl rfl) (hK.2 0 _ rfl).2 (hK.2 1 _ rfl).2
  subst ec
  have hK := hK.sub (tys' := [(c0_, .int)]) [0] rfl
  have hP : va_P D vwCl [(h, .inr (1, [.ref a0, .ref a1, .ref a2, .null, .null, .int (nI 0), .null])), (a0, .inl (c0_, 16, .inl (fun _ => nI 0))), (a1, .inl (c0_, 16, .inl (fun _ => nI 0))), (a2, .inl (c0_, 16, .inl (fun _ => nI 0))), (a3, .inl (c0_, 64, .inl (fun _ => nI 0)))] H := hP
  have hD : va_D A [(h, .inr (1, [.ref a0, .ref a1, .ref a2, .null, .null, .int (nI 0), .null])), (a0, .inl (c0_, 16, .inl (fun _ => nI 0))), (a1, .inl (c0_, 16, .inl (fun _ => nI 0))), (a2, .inl (c0_, 16, .inl (fun _ => nI 0))), (a3, .inl (c0_, 64, .inl (fun _ => nI 0)))] := hD
  refine va_putF (D := D) (ci := 1) (v := .ref a3) (ty := .array .int) (C := RX1) (T := TX1) (N := 7) hx hb hts in_X1 tyX1 tyX1_ok nmX1 hown hK hP hD hS 0 rfl rfl 3 (by decide) (hts _ q151) (fun _ h9 => h9) rfl hin rfl (by decide +kernel) rfl rfl (Nat.le_of_ble_eq_true rfl) dX1_init_33 (fun H locs hP hD hS => ?_)
  have hP : va_P D vwCl [(h, .inr (1, [.ref a0, .ref a1, .ref a2, .ref a3, .null, .int (nI 0), .null])), (a0, .inl (c0_, 16, .inl (fun _ => nI 0))), (a1, .inl (c0_, 16, .inl (fun _ => nI 0))), (a2, .inl (c0_, 16, .inl (fun _ => nI 0))), (a3, .inl (c0_, 64, .inl (fun _ => nI 0)))] H := hP
  have hD : va_D A [(h, .inr (1, [.ref a0, .ref a1, .ref a2, .ref a3, .null, .int (nI 0), .null])), (a0, .inl (c0_, 16, .inl (fun _ => nI 0))), (a1, .inl (c0_, 16, .inl (fun _ => nI 0))), (a2, .inl (c0_, 16, .inl (fun _ => nI 0))), (a3, .inl (c0_, 64, .inl (fun _ => nI 0)))] := hD
  refine lv_aload_n hx hb dX1_init_36 rfl (lv_at hl 0 rfl) ?_
  refine lv_bipush (v := nI 64) hx hb dX1_init_37 (by decide) ?_
  refine va_newa (atype := .boolean) (ty := .boolean) hx hb (hts _ q61) rfl hK hP hD hS hA (n := nI 64) (N' := 64) (a0 := (64, .inl (fun _ => nI 0))) (fun _ => rfl) (by decide) (by decide) (by decide) (Nat.le_of_ble_eq_true rfl) (Nat.le_of_ble_eq_true rfl) dX1_init_39 (fun a4 c4_ H hK hP hD hS => ?_)
  have hK : va_K D vwCl [(c0_, .int), (c4_, .boolean)] s := hK
  have hP : va_P D vwCl [(h, .inr (1, [.ref a0, .ref a1, .ref a2, .ref a3, .null, .int (nI 0), .null])), (a0, .inl (c0_, 16, .inl (fun _ => nI 0))), (a1, .inl (c0_, 16, .inl (fun _ => nI 0))), (a2, .inl (c0_, 16, .inl (fun _ => nI 0))), (a3, .inl (c0_, 64, .inl (fun _ => nI 0))), (a4, .inl (c4_, 64, .inl (fun _ => nI 0)))] H := hP
  have hD : va_D A [(h, .inr (1, [.ref a0, .ref a1, .ref a2, .ref a3, .null, .int (nI 0), .null])), (a0, .inl (c0_, 16, .inl (fun _ => nI 0))), (a1, .inl (c0_, 16, .inl (fun _ => nI 0))), (a2, .inl (c0_, 16, .inl (fun _ => nI 0))), (a3, .inl (c0_, 64, .inl (fun _ => nI 0))), (a4, .inl (c4_, 64, .inl (fun _ => nI 0)))] := hD
  refine va_putF (D := D) (ci := 1) (v := .ref a4) (ty := .array .boolean) (C := RX1) (T := TX1) (N := 7) hx hb hts in_X1 tyX1 tyX1_ok nmX1 hown hK hP hD hS 0 rfl rfl 4 (by decide) (hts _ q152) (fun _ h9 => h9) rfl hin rfl (by decide +kernel) rfl rfl (Nat.le_of_ble_eq_true rfl) dX1_init_41 (fun H locs hP hD hS => ?_)
  have hP : va_P D vwCl [(h, .inr (1, [.ref a0, .ref a1, .ref a2, .ref a3, .ref a4, .int (nI 0), .null])), (a0, .inl (c0_, 16, .inl (fun _ => nI 0))), (a1, .inl (c0_, 16, .inl (fun _ => nI 0))), (a2, .inl (c0_, 16, .inl (fun _ => nI 0))), (a3, .inl (c0_, 64, .inl (fun _ => nI 0))), (a4, .inl (c4_, 64, .inl (fun _ => nI 0)))] H := hP
  have hD : va_D A [(h, .inr (1, [.ref a0, .ref a1, .ref a2, .ref a3, .ref a4, .int (nI 0), .null])), (a0, .inl (c0_, 16, .inl (fun _ => nI 0))), (a1, .inl (c0_, 16, .inl (fun _ => nI 0))), (a2, .inl (c0_, 16, .inl (fun _ => nI 0))), (a3, .inl (c0_, 64, .inl (fun _ => nI 0))), (a4, .inl (c4_, 64, .inl (fun _ => nI 0)))] := hD
  refine lv_aload_n hx hb dX1_init_44 rfl (lv_at hl 0 rfl) ?_
  refine lv_sipush (v := nI 256) hx hb dX1_init_45 (by decide) ?_
  refine va_newa (atype := .boolean) (ty := .boolean) hx hb (hts _ q61) rfl hK hP hD hS hA (n := nI 256) (N' := 256) (a0 := (256, .inl (fun _ => nI 0))) (fun _ => rfl) (by decide) (by decide) (by decide) (Nat.le_of_ble_eq_true rfl) (Nat.le_of_ble_eq_true rfl) dX1_init_48 (fun a5 c5_ H hK hP hD hS => ?_)
  have ec : c4_ = c5_ := Eq.symm <| st_same (Or.inr rfl) (hK.2 1 _ rfl).2 (hK.2 2 _ rfl).2
  subst ec
  have hK := hK.sub (tys' := [(c0_, .int), (c4_, .boolean)]) [0, 1] rfl
  have hP : va_P D vwCl [(h, .inr (1, [.ref a0, .ref a1, .ref a2, .ref a3, .ref a4, .int (nI 0), .null])), (a0, .inl (c0_, 16, .inl (fun _ => nI 0))), (a1, .inl (c0_, 16, .inl (fun _ => nI 0))), (a2, .inl (c0_, 16, .inl (fun _ => nI 0))), (a3, .inl (c0_, 64, .inl (fun _ => nI 0))), (a4, .inl (c4_, 64, .inl (fun _ => nI 0))), (a5, .inl (c4_, 256, .inl (fun _ => nI 0)))] H := hP
  have hD : va_D A [(h, .inr (1, [.ref a0, .ref a1, .ref a2, .ref a3, .ref a4, .int (nI 0), .null])), (a0, .inl (c0_, 16, .inl (fun _ => nI 0))), (a1, .inl (c0_, 16, .inl (fun _ => nI 0))), (a2, .inl (c0_, 16, .inl (fun _ => nI 0))), (a3, .inl (c0_, 64, .inl (fun _ => nI 0))), (a4, .inl (c4_, 64, .inl (fun _ => nI 0))), (a5, .inl (c4_, 256, .inl (fun _ => nI 0)))] := hD
  refine va_putF (D := D) (ci := 1) (v := .ref a5) (ty := .array .boolean) (C := RX1) (T := TX1) (N := 7) hx hb hts in_X1 tyX1 tyX1_ok nmX1 hown hK hP hD hS 0 rfl rfl 6 (by decide) (hts _ q154) (fun _ h9 => h9) rfl hin rfl (by decide +kernel) rfl rfl (Nat.le_of_ble_eq_true rfl) dX1_init_50 (fun H locs hP hD hS => ?_)
  have hP : va_P D vwCl [(h, .inr (1, [.ref a0, .ref a1, .ref a2, .ref a3, .ref a4, .int (nI 0), .ref a5])), (a0, .inl (c0_, 16, .inl (fun _ => nI 0))), (a1, .inl (c0_, 16, .inl (fun _ => nI 0))), (a2, .inl (c0_, 16, .inl (fun _ => nI 0))), (a3, .inl (c0_, 64, .inl (fun _ => nI 0))), (a4, .inl (c4_, 64, .inl (fun _ => nI 0))), (a5, .inl (c4_, 256, .inl (fun _ => nI 0)))] H := hP
  have hD : va_D A [(h, .inr (1, [.ref a0, .ref a1, .ref a2, .ref a3, .ref a4, .int (nI 0), .ref a5])), (a0, .inl (c0_, 16, .inl (fun _ => nI 0))), (a1, .inl (c0_, 16, .inl (fun _ => nI 0))), (a2, .inl (c0_, 16, .inl (fun _ => nI 0))), (a3, .inl (c0_, 64, .inl (fun _ => nI 0))), (a4, .inl (c4_, 64, .inl (fun _ => nI 0))), (a5, .inl (c4_, 256, .inl (fun _ => nI 0)))] := hD
  refine W.widen (k := 6) (n := 432) (Nat.le_of_ble_eq_true rfl) (Nat.le_of_ble_eq_true rfl) ?_
  obtain ⟨ad, e0, e1, e2, e3, e4, e5⟩ : ∃ ad : Nat → Nat, ad 0 = a0 ∧ ad 1 = a1 ∧ ad 2 = a2 ∧ ad 3 = a3 ∧ ad 4 = a4 ∧ ad 5 = a5 := ⟨fun j => match j with | 0 => a0 | 1 => a1 | 2 => a2 | 3 => a3 | 4 => a4 | _ => a5, rfl, rfl, rfl, rfl, rfl, rfl⟩
  subst e0 e1 e2 e3 e4 e5
  obtain ⟨k, ek0, ek1⟩ : ∃ k : Nat → ClassId, k 0 = c0_ ∧ k 1 = c4_ := ⟨fun j => match j with | 0 => c0_ | _ => c4_, rfl, rfl⟩
  subst ek0 ek1
  have hw : st_W D A s.heap (w1 h ad k st_M0 st_v0) H locs := ⟨hP, hD, hS⟩
  exact W.vret hx hb hr (fun t ht hW => ⟨⟨(ad, k), rfl, trivial, by rw [ht]; exact hw.1, va_K.moved hW.alike hK, hw.2.1⟩, hw.2.2.F ht⟩) hw.2.2.2.2 dX1_init_53
end
section
/-! the law's own entry -/
set_option maxRecDepth 100000
abbrev cL_law : ByteArray := code
theorem dL_law_0 : decode cL_law 0 = .ok (.new 7, 3) := by decide +kernel
theorem dL_law_3 : decode cL_law 3 = .ok (.dup, 1) := by decide +kernel
theorem dL_law_4 : decode cL_law 4 = .ok (.invokespecial 9, 3) := by decide +kernel
theorem dL_law_7 : decode cL_law 7 = .ok (.astore_n 1, 1) := by decide +kernel
theorem dL_law_8 : decode cL_law 8 = .ok (.new 10, 3) := by decide +kernel
theorem dL_law_11 : decode cL_law 11 = .ok (.dup, 1) := by decide +kernel
theorem dL_law_12 : decode cL_law 12 = .ok (.invokespecial 12, 3) := by decide +kernel
theorem dL_law_15 : decode cL_law 15 = .ok (.astore_n 2, 1) := by decide +kernel
theorem dL_law_16 : decode cL_law 16 = .ok (.iconst 0, 1) := by decide +kernel
theorem dL_law_17 : decode cL_law 17 = .ok (.istore_n 3, 1) := by decide +kernel
theorem dL_law_18 : decode cL_law 18 = .ok (.iload_n 3, 1) := by decide +kernel
theorem dL_law_19 : decode cL_law 19 = .ok (.aload_n 0, 1) := by decide +kernel
theorem dL_law_20 : decode cL_law 20 = .ok (.arraylength, 1) := by decide +kernel
theorem dL_law_21 : decode cL_law 21 = .ok (.iconst 5, 1) := by decide +kernel
theorem dL_law_22 : decode cL_law 22 = .ok (.isub, 1) := by decide +kernel
theorem dL_law_23 : decode cL_law 23 = .ok (.if_icmp .gt 371, 3) := by decide +kernel
theorem dL_law_26 : decode cL_law 26 = .ok (.aload_n 0, 1) := by decide +kernel
theorem dL_law_27 : decode cL_law 27 = .ok (.iload_n 3, 1) := by decide +kernel
theorem dL_law_28 : decode cL_law 28 = .ok (.iaload, 1) := by decide +kernel
theorem dL_law_29 : decode cL_law 29 = .ok (.bipush 15, 2) := by decide +kernel
theorem dL_law_31 : decode cL_law 31 = .ok (.iand, 1) := by decide +kernel
theorem dL_law_32 : decode cL_law 32 = .ok (.tableswitch 356 0 9 #[56, 89, 132, 185, 218, 251, 284, 307, 320, 333], 56) := by decide +kernel
theorem dL_law_88 : decode cL_law 88 = .ok (.aload_n 1, 1) := by decide +kernel
theorem dL_law_89 : decode cL_law 89 = .ok (.aload_n 0, 1) := by decide +kernel
theorem dL_law_90 : decode cL_law 90 = .ok (.iload_n 3, 1) := by decide +kernel
theorem dL_law_91 : decode cL_law 91 = .ok (.iconst 1, 1) := by decide +kernel
theorem dL_law_92 : decode cL_law 92 = .ok (.iadd, 1) := by decide +kernel
theorem dL_law_93 : decode cL_law 93 = .ok (.iaload, 1) := by decide +kernel
theorem dL_law_94 : decode cL_law 94 = .ok (.aload_n 0, 1) := by decide +kernel
theorem dL_law_95 : decode cL_law 95 = .ok (.iload_n 3, 1) := by decide +kernel
theorem dL_law_96 : decode cL_law 96 = .ok (.iconst 2, 1) := by decide +kernel
theorem dL_law_97 : decode cL_law 97 = .ok (.iadd, 1) := by decide +kernel
theorem dL_law_98 : decode cL_law 98 = .ok (.iaload, 1) := by decide +kernel
theorem dL_law_99 : decode cL_law 99 = .ok (.invokevirtual 13, 3) := by decide +kernel
theorem dL_law_102 : decode cL_law 102 = .ok (.aload_n 2, 1) := by decide +kernel
theorem dL_law_103 : decode cL_law 103 = .ok (.aload_n 0, 1) := by decide +kernel
theorem dL_law_104 : decode cL_law 104 = .ok (.iload_n 3, 1) := by decide +kernel
theorem dL_law_105 : decode cL_law 105 = .ok (.iconst 1, 1) := by decide +kernel
theorem dL_law_106 : decode cL_law 106 = .ok (.iadd, 1) := by decide +kernel
theorem dL_law_107 : decode cL_law 107 = .ok (.iaload, 1) := by decide +kernel
theorem dL_law_108 : decode cL_law 108 = .ok (.aload_n 0, 1) := by decide +kernel
theorem dL_law_109 : decode cL_law 109 = .ok (.iload_n 3, 1) := by decide +kernel
theorem dL_law_110 : decode cL_law 110 = .ok (.iconst 2, 1) := by decide +kernel
theorem dL_law_111 : decode cL_law 111 = .ok (.iadd, 1) := by decide +kernel
theorem dL_law_112 : decode cL_law 112 = .ok (.iaload, 1) := by decide +kernel
theorem dL_law_113 : decode cL_law 113 = .ok (.invokevirtual 17, 3) := by decide +kernel
theorem dL_law_116 : decode cL_law 116 = .ok (.if_icmp .eq 272, 3) := by decide +kernel
theorem dL_law_119 : decode cL_law 119 = .ok (.iconst 0, 1) := by decide +kernel
theorem dL_law_120 : decode cL_law 120 = .ok (.ireturn, 1) := by decide +kernel
theorem dL_law_121 : decode cL_law 121 = .ok (.aload_n 1, 1) := by decide +kernel
theorem dL_law_122 : decode cL_law 122 = .ok (.aload_n 0, 1) := by decide +kernel
theorem dL_law_123 : decode cL_law 123 = .ok (.iload_n 3, 1) := by decide +kernel
theorem dL_law_124 : decode cL_law 124 = .ok (.iconst 1, 1) := by decide +kernel
theorem dL_law_125 : decode cL_law 125 = .ok (.iadd, 1) := by decide +kernel
theorem dL_law_126 : decode cL_law 126 = .ok (.iaload, 1) := by decide +kernel
theorem dL_law_127 : decode cL_law 127 = .ok (.aload_n 0, 1) := by decide +kernel
theorem dL_law_128 : decode cL_law 128 = .ok (.iload_n 3, 1) := by decide +kernel
theorem dL_law_129 : decode cL_law 129 = .ok (.iconst 2, 1) := by decide +kernel
theorem dL_law_130 : decode cL_law 130 = .ok (.iadd, 1) := by decide +kernel
theorem dL_law_131 : decode cL_law 131 = .ok (.iaload, 1) := by decide +kernel
theorem dL_law_132 : decode cL_law 132 = .ok (.aload_n 0, 1) := by decide +kernel
theorem dL_law_133 : decode cL_law 133 = .ok (.iload_n 3, 1) := by decide +kernel
theorem dL_law_134 : decode cL_law 134 = .ok (.iconst 3, 1) := by decide +kernel
theorem dL_law_135 : decode cL_law 135 = .ok (.iadd, 1) := by decide +kernel
theorem dL_law_136 : decode cL_law 136 = .ok (.iaload, 1) := by decide +kernel
theorem dL_law_137 : decode cL_law 137 = .ok (.invokevirtual 18, 3) := by decide +kernel
theorem dL_law_140 : decode cL_law 140 = .ok (.aload_n 2, 1) := by decide +kernel
theorem dL_law_141 : decode cL_law 141 = .ok (.aload_n 0, 1) := by decide +kernel
theorem dL_law_142 : decode cL_law 142 = .ok (.iload_n 3, 1) := by decide +kernel
theorem dL_law_143 : decode cL_law 143 = .ok (.iconst 1, 1) := by decide +kernel
theorem dL_law_144 : decode cL_law 144 = .ok (.iadd, 1) := by decide +kernel
theorem dL_law_145 : decode cL_law 145 = .ok (.iaload, 1) := by decide +kernel
theorem dL_law_146 : decode cL_law 146 = .ok (.aload_n 0, 1) := by decide +kernel
theorem dL_law_147 : decode cL_law 147 = .ok (.iload_n 3, 1) := by decide +kernel
theorem dL_law_148 : decode cL_law 148 = .ok (.iconst 2, 1) := by decide +kernel
theorem dL_law_149 : decode cL_law 149 = .ok (.iadd, 1) := by decide +kernel
theorem dL_law_150 : decode cL_law 150 = .ok (.iaload, 1) := by decide +kernel
theorem dL_law_151 : decode cL_law 151 = .ok (.aload_n 0, 1) := by decide +kernel
theorem dL_law_152 : decode cL_law 152 = .ok (.iload_n 3, 1) := by decide +kernel
theorem dL_law_153 : decode cL_law 153 = .ok (.iconst 3, 1) := by decide +kernel
theorem dL_law_154 : decode cL_law 154 = .ok (.iadd, 1) := by decide +kernel
theorem dL_law_155 : decode cL_law 155 = .ok (.iaload, 1) := by decide +kernel
theorem dL_law_156 : decode cL_law 156 = .ok (.invokevirtual 22, 3) := by decide +kernel
theorem dL_law_159 : decode cL_law 159 = .ok (.if_icmp .eq 229, 3) := by decide +kernel
theorem dL_law_162 : decode cL_law 162 = .ok (.iconst 0, 1) := by decide +kernel
theorem dL_law_163 : decode cL_law 163 = .ok (.ireturn, 1) := by decide +kernel
theorem dL_law_164 : decode cL_law 164 = .ok (.aload_n 1, 1) := by decide +kernel
theorem dL_law_165 : decode cL_law 165 = .ok (.aload_n 0, 1) := by decide +kernel
theorem dL_law_166 : decode cL_law 166 = .ok (.iload_n 3, 1) := by decide +kernel
theorem dL_law_167 : decode cL_law 167 = .ok (.iconst 1, 1) := by decide +kernel
theorem dL_law_168 : decode cL_law 168 = .ok (.iadd, 1) := by decide +kernel
theorem dL_law_169 : decode cL_law 169 = .ok (.iaload, 1) := by decide +kernel
theorem dL_law_170 : decode cL_law 170 = .ok (.aload_n 0, 1) := by decide +kernel
theorem dL_law_171 : decode cL_law 171 = .ok (.iload_n 3, 1) := by decide +kernel
theorem dL_law_172 : decode cL_law 172 = .ok (.iconst 2, 1) := by decide +kernel
theorem dL_law_173 : decode cL_law 173 = .ok (.iadd, 1) := by decide +kernel
theorem dL_law_174 : decode cL_law 174 = .ok (.iaload, 1) := by decide +kernel
theorem dL_law_175 : decode cL_law 175 = .ok (.aload_n 0, 1) := by decide +kernel
theorem dL_law_176 : decode cL_law 176 = .ok (.iload_n 3, 1) := by decide +kernel
theorem dL_law_177 : decode cL_law 177 = .ok (.iconst 3, 1) := by decide +kernel
theorem dL_law_178 : decode cL_law 178 = .ok (.iadd, 1) := by decide +kernel
theorem dL_law_179 : decode cL_law 179 = .ok (.iaload, 1) := by decide +kernel
theorem dL_law_180 : decode cL_law 180 = .ok (.aload_n 0, 1) := by decide +kernel
theorem dL_law_181 : decode cL_law 181 = .ok (.iload_n 3, 1) := by decide +kernel
theorem dL_law_182 : decode cL_law 182 = .ok (.iconst 4, 1) := by decide +kernel
theorem dL_law_183 : decode cL_law 183 = .ok (.iadd, 1) := by decide +kernel
theorem dL_law_184 : decode cL_law 184 = .ok (.iaload, 1) := by decide +kernel
theorem dL_law_185 : decode cL_law 185 = .ok (.invokevirtual 23, 3) := by decide +kernel
theorem dL_law_188 : decode cL_law 188 = .ok (.aload_n 2, 1) := by decide +kernel
theorem dL_law_189 : decode cL_law 189 = .ok (.aload_n 0, 1) := by decide +kernel
theorem dL_law_190 : decode cL_law 190 = .ok (.iload_n 3, 1) := by decide +kernel
theorem dL_law_191 : decode cL_law 191 = .ok (.iconst 1, 1) := by decide +kernel
theorem dL_law_192 : decode cL_law 192 = .ok (.iadd, 1) := by decide +kernel
theorem dL_law_193 : decode cL_law 193 = .ok (.iaload, 1) := by decide +kernel
theorem dL_law_194 : decode cL_law 194 = .ok (.aload_n 0, 1) := by decide +kernel
theorem dL_law_195 : decode cL_law 195 = .ok (.iload_n 3, 1) := by decide +kernel
theorem dL_law_196 : decode cL_law 196 = .ok (.iconst 2, 1) := by decide +kernel
theorem dL_law_197 : decode cL_law 197 = .ok (.iadd, 1) := by decide +kernel
theorem dL_law_198 : decode cL_law 198 = .ok (.iaload, 1) := by decide +kernel
theorem dL_law_199 : decode cL_law 199 = .ok (.aload_n 0, 1) := by decide +kernel
theorem dL_law_200 : decode cL_law 200 = .ok (.iload_n 3, 1) := by decide +kernel
theorem dL_law_201 : decode cL_law 201 = .ok (.iconst 3, 1) := by decide +kernel
theorem dL_law_202 : decode cL_law 202 = .ok (.iadd, 1) := by decide +kernel
theorem dL_law_203 : decode cL_law 203 = .ok (.iaload, 1) := by decide +kernel
theorem dL_law_204 : decode cL_law 204 = .ok (.aload_n 0, 1) := by decide +kernel
theorem dL_law_205 : decode cL_law 205 = .ok (.iload_n 3, 1) := by decide +kernel
theorem dL_law_206 : decode cL_law 206 = .ok (.iconst 4, 1) := by decide +kernel
theorem dL_law_207 : decode cL_law 207 = .ok (.iadd, 1) := by decide +kernel
theorem dL_law_208 : decode cL_law 208 = .ok (.iaload, 1) := by decide +kernel
theorem dL_law_209 : decode cL_law 209 = .ok (.invokevirtual 27, 3) := by decide +kernel
theorem dL_law_212 : decode cL_law 212 = .ok (.if_icmp .eq 176, 3) := by decide +kernel
theorem dL_law_215 : decode cL_law 215 = .ok (.iconst 0, 1) := by decide +kernel
theorem dL_law_216 : decode cL_law 216 = .ok (.ireturn, 1) := by decide +kernel
end
section
set_option maxRecDepth 100000
theorem dL_law_217 : decode cL_law 217 = .ok (.aload_n 1, 1) := by decide +kernel
theorem dL_law_218 : decode cL_law 218 = .ok (.aload_n 0, 1) := by decide +kernel
theorem dL_law_219 : decode cL_law 219 = .ok (.iload_n 3, 1) := by decide +kernel
theorem dL_law_220 : decode cL_law 220 = .ok (.iconst 1, 1) := by decide +kernel
theorem dL_law_221 : decode cL_law 221 = .ok (.iadd, 1) := by decide +kernel
theorem dL_law_222 : decode cL_law 222 = .ok (.iaload, 1) := by decide +kernel
theorem dL_law_223 : decode cL_law 223 = .ok (.aload_n 0, 1) := by decide +kernel
theorem dL_law_224 : decode cL_law 224 = .ok (.iload_n 3, 1) := by decide +kernel
theorem dL_law_225 : decode cL_law 225 = .ok (.iconst 2, 1) := by decide +kernel
theorem dL_law_226 : decode cL_law 226 = .ok (.iadd, 1) := by decide +kernel
theorem dL_law_227 : decode cL_law 227 = .ok (.iaload, 1) := by decide +kernel
theorem dL_law_228 : decode cL_law 228 = .ok (.invokevirtual 28, 3) := by decide +kernel
theorem dL_law_231 : decode cL_law 231 = .ok (.aload_n 2, 1) := by decide +kernel
theorem dL_law_232 : decode cL_law 232 = .ok (.aload_n 0, 1) := by decide +kernel
theorem dL_law_233 : decode cL_law 233 = .ok (.iload_n 3, 1) := by decide +kernel
theorem dL_law_234 : decode cL_law 234 = .ok (.iconst 1, 1) := by decide +kernel
theorem dL_law_235 : decode cL_law 235 = .ok (.iadd, 1) := by decide +kernel
theorem dL_law_236 : decode cL_law 236 = .ok (.iaload, 1) := by decide +kernel
theorem dL_law_237 : decode cL_law 237 = .ok (.aload_n 0, 1) := by decide +kernel
theorem dL_law_238 : decode cL_law 238 = .ok (.iload_n 3, 1) := by decide +kernel
theorem dL_law_239 : decode cL_law 239 = .ok (.iconst 2, 1) := by decide +kernel
theorem dL_law_240 : decode cL_law 240 = .ok (.iadd, 1) := by decide +kernel
theorem dL_law_241 : decode cL_law 241 = .ok (.iaload, 1) := by decide +kernel
theorem dL_law_242 : decode cL_law 242 = .ok (.invokevirtual 31, 3) := by decide +kernel
theorem dL_law_245 : decode cL_law 245 = .ok (.if_icmp .eq 143, 3) := by decide +kernel
theorem dL_law_248 : decode cL_law 248 = .ok (.iconst 0, 1) := by decide +kernel
theorem dL_law_249 : decode cL_law 249 = .ok (.ireturn, 1) := by decide +kernel
theorem dL_law_250 : decode cL_law 250 = .ok (.aload_n 1, 1) := by decide +kernel
theorem dL_law_251 : decode cL_law 251 = .ok (.aload_n 0, 1) := by decide +kernel
theorem dL_law_252 : decode cL_law 252 = .ok (.iload_n 3, 1) := by decide +kernel
theorem dL_law_253 : decode cL_law 253 = .ok (.iconst 1, 1) := by decide +kernel
theorem dL_law_254 : decode cL_law 254 = .ok (.iadd, 1) := by decide +kernel
theorem dL_law_255 : decode cL_law 255 = .ok (.iaload, 1) := by decide +kernel
theorem dL_law_256 : decode cL_law 256 = .ok (.aload_n 0, 1) := by decide +kernel
theorem dL_law_257 : decode cL_law 257 = .ok (.iload_n 3, 1) := by decide +kernel
theorem dL_law_258 : decode cL_law 258 = .ok (.iconst 2, 1) := by decide +kernel
theorem dL_law_259 : decode cL_law 259 = .ok (.iadd, 1) := by decide +kernel
theorem dL_law_260 : decode cL_law 260 = .ok (.iaload, 1) := by decide +kernel
theorem dL_law_261 : decode cL_law 261 = .ok (.invokevirtual 32, 3) := by decide +kernel
theorem dL_law_264 : decode cL_law 264 = .ok (.aload_n 2, 1) := by decide +kernel
theorem dL_law_265 : decode cL_law 265 = .ok (.aload_n 0, 1) := by decide +kernel
theorem dL_law_266 : decode cL_law 266 = .ok (.iload_n 3, 1) := by decide +kernel
theorem dL_law_267 : decode cL_law 267 = .ok (.iconst 1, 1) := by decide +kernel
theorem dL_law_268 : decode cL_law 268 = .ok (.iadd, 1) := by decide +kernel
theorem dL_law_269 : decode cL_law 269 = .ok (.iaload, 1) := by decide +kernel
theorem dL_law_270 : decode cL_law 270 = .ok (.aload_n 0, 1) := by decide +kernel
theorem dL_law_271 : decode cL_law 271 = .ok (.iload_n 3, 1) := by decide +kernel
theorem dL_law_272 : decode cL_law 272 = .ok (.iconst 2, 1) := by decide +kernel
theorem dL_law_273 : decode cL_law 273 = .ok (.iadd, 1) := by decide +kernel
theorem dL_law_274 : decode cL_law 274 = .ok (.iaload, 1) := by decide +kernel
theorem dL_law_275 : decode cL_law 275 = .ok (.invokevirtual 36, 3) := by decide +kernel
theorem dL_law_278 : decode cL_law 278 = .ok (.if_icmp .eq 110, 3) := by decide +kernel
theorem dL_law_281 : decode cL_law 281 = .ok (.iconst 0, 1) := by decide +kernel
theorem dL_law_282 : decode cL_law 282 = .ok (.ireturn, 1) := by decide +kernel
theorem dL_law_283 : decode cL_law 283 = .ok (.aload_n 1, 1) := by decide +kernel
theorem dL_law_284 : decode cL_law 284 = .ok (.aload_n 0, 1) := by decide +kernel
theorem dL_law_285 : decode cL_law 285 = .ok (.iload_n 3, 1) := by decide +kernel
theorem dL_law_286 : decode cL_law 286 = .ok (.iconst 1, 1) := by decide +kernel
theorem dL_law_287 : decode cL_law 287 = .ok (.iadd, 1) := by decide +kernel
theorem dL_law_288 : decode cL_law 288 = .ok (.iaload, 1) := by decide +kernel
theorem dL_law_289 : decode cL_law 289 = .ok (.aload_n 0, 1) := by decide +kernel
theorem dL_law_290 : decode cL_law 290 = .ok (.iload_n 3, 1) := by decide +kernel
theorem dL_law_291 : decode cL_law 291 = .ok (.iconst 2, 1) := by decide +kernel
theorem dL_law_292 : decode cL_law 292 = .ok (.iadd, 1) := by decide +kernel
theorem dL_law_293 : decode cL_law 293 = .ok (.iaload, 1) := by decide +kernel
theorem dL_law_294 : decode cL_law 294 = .ok (.invokevirtual 37, 3) := by decide +kernel
theorem dL_law_297 : decode cL_law 297 = .ok (.aload_n 2, 1) := by decide +kernel
theorem dL_law_298 : decode cL_law 298 = .ok (.aload_n 0, 1) := by decide +kernel
theorem dL_law_299 : decode cL_law 299 = .ok (.iload_n 3, 1) := by decide +kernel
theorem dL_law_300 : decode cL_law 300 = .ok (.iconst 1, 1) := by decide +kernel
theorem dL_law_301 : decode cL_law 301 = .ok (.iadd, 1) := by decide +kernel
theorem dL_law_302 : decode cL_law 302 = .ok (.iaload, 1) := by decide +kernel
theorem dL_law_303 : decode cL_law 303 = .ok (.aload_n 0, 1) := by decide +kernel
theorem dL_law_304 : decode cL_law 304 = .ok (.iload_n 3, 1) := by decide +kernel
theorem dL_law_305 : decode cL_law 305 = .ok (.iconst 2, 1) := by decide +kernel
theorem dL_law_306 : decode cL_law 306 = .ok (.iadd, 1) := by decide +kernel
theorem dL_law_307 : decode cL_law 307 = .ok (.iaload, 1) := by decide +kernel
theorem dL_law_308 : decode cL_law 308 = .ok (.invokevirtual 40, 3) := by decide +kernel
theorem dL_law_311 : decode cL_law 311 = .ok (.if_icmp .eq 77, 3) := by decide +kernel
theorem dL_law_314 : decode cL_law 314 = .ok (.iconst 0, 1) := by decide +kernel
theorem dL_law_315 : decode cL_law 315 = .ok (.ireturn, 1) := by decide +kernel
theorem dL_law_316 : decode cL_law 316 = .ok (.aload_n 1, 1) := by decide +kernel
theorem dL_law_317 : decode cL_law 317 = .ok (.aload_n 0, 1) := by decide +kernel
theorem dL_law_318 : decode cL_law 318 = .ok (.iload_n 3, 1) := by decide +kernel
theorem dL_law_319 : decode cL_law 319 = .ok (.iconst 1, 1) := by decide +kernel
theorem dL_law_320 : decode cL_law 320 = .ok (.iadd, 1) := by decide +kernel
theorem dL_law_321 : decode cL_law 321 = .ok (.iaload, 1) := by decide +kernel
theorem dL_law_322 : decode cL_law 322 = .ok (.invokevirtual 41, 3) := by decide +kernel
theorem dL_law_325 : decode cL_law 325 = .ok (.aload_n 2, 1) := by decide +kernel
theorem dL_law_326 : decode cL_law 326 = .ok (.aload_n 0, 1) := by decide +kernel
theorem dL_law_327 : decode cL_law 327 = .ok (.iload_n 3, 1) := by decide +kernel
theorem dL_law_328 : decode cL_law 328 = .ok (.iconst 1, 1) := by decide +kernel
theorem dL_law_329 : decode cL_law 329 = .ok (.iadd, 1) := by decide +kernel
theorem dL_law_330 : decode cL_law 330 = .ok (.iaload, 1) := by decide +kernel
theorem dL_law_331 : decode cL_law 331 = .ok (.invokevirtual 45, 3) := by decide +kernel
theorem dL_law_334 : decode cL_law 334 = .ok (.if_icmp .eq 54, 3) := by decide +kernel
theorem dL_law_337 : decode cL_law 337 = .ok (.iconst 0, 1) := by decide +kernel
theorem dL_law_338 : decode cL_law 338 = .ok (.ireturn, 1) := by decide +kernel
theorem dL_law_339 : decode cL_law 339 = .ok (.aload_n 1, 1) := by decide +kernel
theorem dL_law_340 : decode cL_law 340 = .ok (.invokevirtual 46, 3) := by decide +kernel
theorem dL_law_343 : decode cL_law 343 = .ok (.aload_n 2, 1) := by decide +kernel
theorem dL_law_344 : decode cL_law 344 = .ok (.invokevirtual 50, 3) := by decide +kernel
theorem dL_law_347 : decode cL_law 347 = .ok (.if_icmp .eq 41, 3) := by decide +kernel
theorem dL_law_350 : decode cL_law 350 = .ok (.iconst 0, 1) := by decide +kernel
theorem dL_law_351 : decode cL_law 351 = .ok (.ireturn, 1) := by decide +kernel
theorem dL_law_352 : decode cL_law 352 = .ok (.aload_n 1, 1) := by decide +kernel
theorem dL_law_353 : decode cL_law 353 = .ok (.invokevirtual 51, 3) := by decide +kernel
theorem dL_law_356 : decode cL_law 356 = .ok (.aload_n 2, 1) := by decide +kernel
theorem dL_law_357 : decode cL_law 357 = .ok (.invokevirtual 54, 3) := by decide +kernel
theorem dL_law_360 : decode cL_law 360 = .ok (.if_icmp .eq 28, 3) := by decide +kernel
theorem dL_law_363 : decode cL_law 363 = .ok (.iconst 0, 1) := by decide +kernel
theorem dL_law_364 : decode cL_law 364 = .ok (.ireturn, 1) := by decide +kernel
theorem dL_law_365 : decode cL_law 365 = .ok (.aload_n 1, 1) := by decide +kernel
theorem dL_law_366 : decode cL_law 366 = .ok (.aload_n 0, 1) := by decide +kernel
theorem dL_law_367 : decode cL_law 367 = .ok (.iload_n 3, 1) := by decide +kernel
theorem dL_law_368 : decode cL_law 368 = .ok (.iconst 1, 1) := by decide +kernel
theorem dL_law_369 : decode cL_law 369 = .ok (.iadd, 1) := by decide +kernel
theorem dL_law_370 : decode cL_law 370 = .ok (.iaload, 1) := by decide +kernel
theorem dL_law_371 : decode cL_law 371 = .ok (.invokevirtual 55, 3) := by decide +kernel
theorem dL_law_374 : decode cL_law 374 = .ok (.aload_n 2, 1) := by decide +kernel
theorem dL_law_375 : decode cL_law 375 = .ok (.aload_n 0, 1) := by decide +kernel
theorem dL_law_376 : decode cL_law 376 = .ok (.iload_n 3, 1) := by decide +kernel
theorem dL_law_377 : decode cL_law 377 = .ok (.iconst 1, 1) := by decide +kernel
theorem dL_law_378 : decode cL_law 378 = .ok (.iadd, 1) := by decide +kernel
theorem dL_law_379 : decode cL_law 379 = .ok (.iaload, 1) := by decide +kernel
theorem dL_law_380 : decode cL_law 380 = .ok (.invokevirtual 58, 3) := by decide +kernel
theorem dL_law_383 : decode cL_law 383 = .ok (.if_icmp .eq 5, 3) := by decide +kernel
theorem dL_law_386 : decode cL_law 386 = .ok (.iconst 0, 1) := by decide +kernel
theorem dL_law_387 : decode cL_law 387 = .ok (.ireturn, 1) := by decide +kernel
theorem dL_law_388 : decode cL_law 388 = .ok (.iinc 3 5, 3) := by decide +kernel
theorem dL_law_391 : decode cL_law 391 = .ok (.goto (-373), 3) := by decide +kernel
theorem dL_law_394 : decode cL_law 394 = .ok (.iconst 1, 1) := by decide +kernel
theorem dL_law_395 : decode cL_law 395 = .ok (.ireturn, 1) := by decide +kernel
end
section
/-! rows of the law; the skeleton's own words -/
/-! THE CLAIM OUT OF ONE WALK OF THE LAW'S BODY. Your part is whole_start (and what it stands on); all else here is the same for every law, but numbers. -/
def R_law : String := "StructuralTypesLaw"
def lw_P (b : Addr) (xs : List Int32) (args : Array Value) (s : State) : Prop := args = #[.ref b] ∧ s.IntsAt b xs ∧ xs.length ≤ 320 ∧ (Jvm.Cond.and given_1 narrow_1).before args s = true
def lw_Q (_ : Array Value) (s : State) (o : Outcome) (t : State) : Prop := o = .returned (some (.int 1)) ∧ Framed s o t [] 600000 7290000
def lw_Z (below : List Frame) (a : Array Value) (s : State) : State → Prop := fun t => ∃ o, t.status = .running ∧ Ended t below o ∧ lw_Q a s o t
/-- the law's own end, with 1 on the stack, nothing written that was there before, its room as the claim has it -/
theorem lw_ret {p : Program} {l : Launch} {e : Env} {s : State} {m : MethodId} {below : List Frame} {meth : Method} {c : Code} {b : Nat} (hx : p.tables.exec = Jvm.exec) (hb : c.code = code) (hr : meth.sig.returnType = ret) (hlocks : meth.locks = false) {pc : Nat} {H : Heap} {ls : Array Slot} (hdg : decode code pc = .ok (.ireturn, 1)) : W p l e room_1 s m #[Value.ref b] below meth c H [] 600000 7290000 (lw_Z below #[Value.ref b] s) (F0 m pc ls [.int 1]) := by
  intro T hT X
  obtain ⟨fs, hret, hrun, hended, hW, hframe⟩ := X.leave (v := some (.int 1)) (hlocks := hlocks) (fun h => by rw [hr] at h; cases h)
  have hmeth' : T.vm.method? m = some meth := X.method'
  refine ⟨T.setFrames fs, ?_, .returned (some (.int 1)), hrun, hended, rfl, ⟨_, rfl⟩, hW, hframe⟩
  jvm_step X.here [X.here.top, hx, hb, hdg, hmeth', hr, ret, narrow_b1]
  (try refine ⟨rfl, ?_⟩); (try refine ⟨rfl, ?_⟩)
  first | (intro acts; rw [hret _ acts rfl rfl rfl]) | rw [hret _ _ rfl rfl rfl]
  exact Steps.refl _
/-- what holds at the law's entry: the machine, the code, the tables' words (any of lw_tbl by 'hts w (by decide +kernel)'), the script of L ints xs at the cell b, what the Statement gives of the start (any of its parts by flat_of_before) -/
def lw_At (p : Program) (s : State) (m : MethodId) (meth : Method) (c : Code) (b L : Nat) (xs : Nat → Int32) : Prop :=
  p.tables.exec = Jvm.exec ∧ c.code = code ∧ meth.sig.returnType = ret ∧ c.maxLocals = 4 ∧ s.vm.findClass R_law = some m.cls ∧ (∀ w ∈ lw_tbl, w.before #[Value.ref b] s = true) ∧ va_X b L xs s s.heap ∧ b < s.heap.size ∧ meth.locks = false ∧ (Jvm.Cond.and given_1 narrow_1).before #[Value.ref b] s = true
def st_L (D : va_G) (s : State) (b L : Nat) (xs : Nat → Int32) (Ax Am : Nat → Prop) (h0 : Nat) (ad0 : Nat → Nat) (k0 : Nat → ClassId) (T : TT) (u : S0) (h1 : Nat) (ad1 : Nat → Nat) (k1 : Nat → ClassId) (M : TT) (v : S1) (H : Heap) : Prop := va_X b L xs s H ∧ va_P D vwCl (w0 h0 ad0 k0 T u) H ∧ va_D Ax (w0 h0 ad0 k0 T u) ∧ va_P D vwCl (w1 h1 ad1 k1 M v) H ∧ va_D Am (w1 h1 ad1 k1 M v)
def st_F (s : State) (b : Nat) (Ax Am : Nat → Prop) : Prop := (∀ q, Ax q → Am q → False) ∧ (∀ q, Ax q → s.heap.size ≤ q) ∧ (∀ q, Am q → s.heap.size ≤ q) ∧ b < s.heap.size
theorem st_X_lt {b L : Nat} {xs : Nat → Int32} {U : State} {H : Heap} (h : va_X b L xs U H) : b < H.size := by
  obtain ⟨scr, h1, -⟩ := h
  exact (Array.getElem?_eq_some_iff.mp h1).1
section LAWROWS
variable {p : Program} {l : Launch} {e : Env} {R : Room} {s : State} {m : MethodId} {args : Array Value} {below : List Frame} {meth : Method} {c : Code} {H : Heap} {cells slots : Nat} {Q : State → Prop}
variable {cc : ByteArray} {pc nL : Nat} {ls : Array Slot} {rest : List Value} {D : va_G} {own : String} {b L : Nat} {xs : Nat → Int32} {Ax Am : Nat → Prop} {h0 h1 : Nat} {ad0 ad1 : Nat → Nat} {k0 k1 : Nat → ClassId} {T T' M M' : TT} {u : S0} {v : S1} {tys : List (ClassId × FieldType)}
theorem st_sld (hx : p.tables.exec = Jvm.exec) (hb : c.code = cc) (hX : va_X b L xs s H) {i : Nat} (hi : i < L) (hL : L < 2 ^ 31) (hdg : decode cc pc = .ok (.iaload, 1))
    (kk : W p l e R s m args below meth c H [] cells slots Q (F0 m (pc + 1) ls (.int (xs i) :: rest))) : W p l e R s m args below meth c H [] cells slots Q (F0 m pc ls (.int (nI i) :: .ref b :: rest)) :=
  va_sld (A := fun _ => False) (H0 := H) hx hb hX (st_X_lt hX) (fun h => h) va_S.rf (vp_in_nI hi hL) hdg (by rw [nI_clamp (Nat.lt_trans hi hL)]; exact kk)
theorem st_slen (hx : p.tables.exec = Jvm.exec) (hb : c.code = cc) (hX : va_X b L xs s H) (hdg : decode cc pc = .ok (.arraylength, 1))
    (kk : W p l e R s m args below meth c H [] cells slots Q (F0 m (pc + 1) ls (.int (nI L) :: rest))) : W p l e R s m args below meth c H [] cells slots Q (F0 m pc ls (.ref b :: rest)) :=
  va_slen (A := fun _ => False) (H0 := H) hx hb hX (st_X_lt hX) (fun h => h) va_S.rf hdg kk
variable {y : MethodName} {bytes : ByteArray} {maxL index n : Nat} {ret0 : Option FieldType} {rm : Room} {As st0 : List Value}
theorem st_lawX {post : Int32 → S0 → Prop} (E : st_E p s m c cc nL args own D tys) (hK : va_K D vwCl (ty0 k0) s) (hI : st_L D s b L xs Ax Am h0 ad0 k0 T u h1 ad1 k1 M v H) (hF : st_F s b Ax Am) (hM : Met l y (ws_ y bytes maxL ret0) rm (va_Pc (.ref h0 :: As) (st_I D Ax (w0 h0 ad0 k0 T u) (ty0 k0))) (va_Qi post (fun u t => st_I D Ax (w0 h0 ad0 k0 T' u) (ty0 k0) t) Ax) 0 0 Ax)
    (g : GoodIn lw_all (wsV own index RX0 y (ws_ y bytes maxL ret0))) (hd : y.cls = RX0 ∧ y.cls ≠ "java/lang/invoke/MethodHandle" ∧ y.cls ≠ "java/lang/invoke/VarHandle" ∧ (parseMethodDescriptor y.desc).map (fun d => d.parameters.length) = some n) (hn : As.length = n) (hrm : rm.cells = 0 ∧ rm.slots = 0) (hR : rm.frames + 1 ≤ R.frames ∧ 8 + (maxL + 11) + rm.locals ≤ R.locals)
    (hsize : ls.size = nL) (hst : st0 = As.reverse ++ .ref h0 :: rest) (hroom : (rest.map fun v => v.category).sum ≤ 8) (hcs : cells ≤ R.cells ∧ slots ≤ R.slots) (hdg : decode cc pc = .ok (.invokevirtual index, 3))
    (kk : ∀ (r : Int32) (u' : S0) (H1 : Heap), post r u' → st_L D s b L xs Ax Am h0 ad0 k0 T' u' h1 ad1 k1 M v H1 → W p l e R s m args below meth c H1 [] cells slots Q (F0 m (pc + 3) ls (.int r :: rest))) : W p l e R s m args below meth c H [] cells slots Q (F0 m pc ls st0) := by
  obtain ⟨i1, i2, i3, i4, i5⟩ := hI
  obtain ⟨f1, f2, f3, f4⟩ := hF
  refine st_callV E (A := Ax) (H0 := H) va_S.rf hM i2 i3 hK (fun _ h => h) g hd hn hrm hR (ci := 0) rfl rfl rfl hsize hst hroom hcs hdg (fun r u' H1 locs1 hp hP1 hD1 hk hS1 => ?_)
  refine va_forget (fun q hq => f2 _ (hS1.2.2 q hq)) ?_
  exact kk r u' H1 hp ⟨i1.kept (hk b (st_X_lt i1) (fun z => absurd (f2 b z) (by omega))), hP1, hD1, i4.kept (fun j q hq => hk q.1 (i4 j q hq).lt (fun z => f1 q.1 z (i5.2 j q hq))), i5⟩
theorem st_lawM {post : Int32 → S1 → Prop} (E : st_E p s m c cc nL args own D tys) (hK : va_K D vwCl (ty1 k1) s) (hI : st_L D s b L xs Ax Am h0 ad0 k0 T u h1 ad1 k1 M v H) (hF : st_F s b Ax Am) (hM : Met l y (ws_ y bytes maxL ret0) rm (va_Pc (.ref h1 :: As) (st_I D Am (w1 h1 ad1 k1 M v) (ty1 k1))) (va_Qi post (fun v t => st_I D Am (w1 h1 ad1 k1 M' v) (ty1 k1) t) Am) 0 0 Am)
    (g : GoodIn lw_all (wsV own index RX1 y (ws_ y bytes maxL ret0))) (hd : y.cls = RX1 ∧ y.cls ≠ "java/lang/invoke/MethodHandle" ∧ y.cls ≠ "java/lang/invoke/VarHandle" ∧ (parseMethodDescriptor y.desc).map (fun d => d.parameters.length) = some n) (hn : As.length = n) (hrm : rm.cells = 0 ∧ rm.slots = 0) (hR : rm.frames + 1 ≤ R.frames ∧ 8 + (maxL + 11) + rm.locals ≤ R.locals)
    (hsize : ls.size = nL) (hst : st0 = As.reverse ++ .ref h1 :: rest) (hroom : (rest.map fun v => v.category).sum ≤ 8) (hcs : cells ≤ R.cells ∧ slots ≤ R.slots) (hdg : decode cc pc = .ok (.invokevirtual index, 3))
    (kk : ∀ (r : Int32) (v' : S1) (H1 : Heap), post r v' → st_L D s b L xs Ax Am h0 ad0 k0 T u h1 ad1 k1 M' v' H1 → W p l e R s m args below meth c H1 [] cells slots Q (F0 m (pc + 3) ls (.int r :: rest))) : W p l e R s m args below meth c H [] cells slots Q (F0 m pc ls st0) := by
  obtain ⟨i1, i2, i3, i4, i5⟩ := hI
  obtain ⟨f1, f2, f3, f4⟩ := hF
  refine st_callV E (A := Am) (H0 := H) va_S.rf hM i4 i5 hK (fun _ h => h) g hd hn hrm hR (ci := 1) rfl rfl rfl hsize hst hroom hcs hdg (fun r v' H1 locs1 hp hP1 hD1 hk hS1 => ?_)
  refine va_forget (fun q hq => f3 _ (hS1.2.2 q hq)) ?_
  exact kk r v' H1 hp ⟨i1.kept (hk b (st_X_lt i1) (fun z => absurd (f3 b z) (by omega))), i2.kept (fun j q hq => hk q.1 (i2 j q hq).lt (fun z => f1 q.1 (i3.2 j q hq) z)), i3, hP1, hD1⟩
end LAWROWS
theorem st_lawc {L i : Nat} (hL : L ≤ 320) (hi : i ≤ L) (h : ¬ nI L - nI 5 < nI i) : i + 5 ≤ L := by
  have h1 := pk_sub_toInt (a := L) (b := 5) (by omega) (by decide)
  have h2 := nI_toInt (n := i) (by omega)
  rw [Int32.lt_iff_toInt_lt, h1, h2] at h
  omega
end
section
/-! the law's loop -/
set_option maxHeartbeats 8000000 in
set_option maxRecDepth 100000 in
/-- the law from its loop on: both sides alike -/
theorem st_law_loop {p : Program} {l : Launch} {e : Env} {s : State} {m : MethodId} {below : List Frame} {meth : Method} {c : Code} {b L : Nat} {xs : Nat → Int32} {D : va_G} {Ax Am : Nat → Prop} {h0 h1 : Nat} {ad0 ad1 : Nat → Nat} {k0 k1 : Nat → ClassId} {tys : List (ClassId × FieldType)} (hL : L ≤ 320) (E : st_E p s m c cL_law 4 #[Value.ref b] R_law D tys) (hr : meth.sig.returnType = ret) (hlk : meth.locks = false) (K0 : va_K D vwCl (ty0 k0) s) (K1 : va_K D vwCl (ty1 k1) s) (hF : st_F s b Ax Am) {H : Heap} {ls : Array Slot} (hl : lv_has ls 4 [(0, .ref b), (1, .ref h0), (2, .ref h1), (3, .int (nI 0))]) (hI : st_L D s b L xs Ax Am h0 ad0 k0 st_T0 st_u0 h1 ad1 k1 st_M0 st_v0 H) : W p l e room_1 s m #[Value.ref b] below meth c H [] 600000 7290000 (lw_Z below #[Value.ref b] s) (F0 m 18 ls []) := by
  have hx := E.1
  have hb := E.2.1
  refine st_loop (σ := Nat × TT × S0 × TT × S1) (fun x H locs ls => [] = locs ∧ st_L D s b L xs Ax Am h0 ad0 k0 x.2.1 x.2.2.1 h1 ad1 k1 x.2.2.2.1 x.2.2.2.2 H ∧ lv_has ls 4 [(0, .ref b), (1, .ref h0), (2, .ref h1), (3, .int (nI x.1))] ∧ x.1 ≤ L ∧ st_wf x.2.1 ∧ st_wf x.2.2.2.1 ∧ st_KI x.2.1 x.2.2.1.1 ∧ st_MI x.2.2.2.1 x.2.2.2.2 ∧ st_Rl x.2.1 x.2.2.2.1) (fun x => 400 - x.1) (fun x H locs ls hJ ih => ?_) (0, st_T0, st_u0, st_M0, st_v0) ⟨rfl, hI, hl, Nat.zero_le L, st_wf_T0, st_wf_M0, st_KI_0, st_MI_0, st_Rl_0⟩
  obtain ⟨i, T, ⟨kn, g, ak⟩, M, ⟨kb, bl⟩⟩ := x
  obtain ⟨rfl, hI, hl, hi, hT, hTM, hK, hM, hRl⟩ := hJ
  have hI : st_L D s b L xs Ax Am h0 ad0 k0 T (kn, g, ak) h1 ad1 k1 M (kb, bl) H := hI
  have hl : lv_has ls 4 [(0, .ref b), (1, .ref h0), (2, .ref h1), (3, .int (nI i))] := hl
  have hi : i ≤ L := hi
  refine lv_iload_n hx hb dL_law_18 rfl (lv_at hl 3 rfl) ?_
  refine lv_aload_n hx hb dL_law_19 rfl (lv_at hl 0 rfl) ?_
  refine st_slen hx hb hI.1 dL_law_20 ?_
  refine lv_iconst (v := nI 5) hx hb dL_law_21 (by decide) ?_
  refine lv_isub hx hb dL_law_22 ?_
  refine lv_icmp_gt (tgt := 394) hx hb dL_law_23 (by decide) (fun hc => ?_) (fun hc => ?_)
  · refine lv_iconst (v := nI 1) hx hb dL_law_394 (by decide) ?_
    exact lw_ret hx hb hr hlk dL_law_395
  · have h5 := st_lawc hL hi hc
    refine lv_aload_n hx hb dL_law_26 rfl (lv_at hl 0 rfl) ?_
    refine lv_iload_n hx hb dL_law_27 rfl (lv_at hl 3 rfl) ?_
    refine st_sld hx hb hI.1 (i := i) (by omega) (by omega) dL_law_28 ?_
    refine lv_bipush (v := nI 15) hx hb dL_law_29 (by decide) ?_
    refine lv_iand hx hb dL_law_31 ?_
    obtain ⟨j, hj, ej⟩ := pk_andE (xs i) (m := nI 15) 4 (by decide)
    refine st_top (y := nI j) ej ?_
    rcases (show j = 0 ∨ j = 1 ∨ j = 2 ∨ j = 3 ∨ j = 4 ∨ j = 5 ∨ j = 6 ∨ j = 7 ∨ j = 8 ∨ j = 9 ∨ 10 ≤ j by omega) with rfl | rfl | rfl | rfl | rfl | rfl | rfl | rfl | rfl | rfl | h10
    · refine lv_tableIn (tgt := 88) (off := 56) hx hb dL_law_32 (by decide) (by decide) (by decide) (by decide) ?_
      refine lv_aload_n hx hb dL_law_88 rfl (lv_at hl 1 rfl) ?_
      refine lv_aload_n hx hb dL_law_89 rfl (lv_at hl 0 rfl) ?_
      refine lv_iload_n hx hb dL_law_90 rfl (lv_at hl 3 rfl) ?_
      refine lv_iconst (v := nI 1) hx hb dL_law_91 (by decide) ?_
      refine st_iadd hx hb dL_law_92 ?_
      refine st_sld hx hb hI.1 (i := i + 1) (by omega) (by omega) dL_law_93 ?_
      refine lv_aload_n hx hb dL_law_94 rfl (lv_at hl 0 rfl) ?_
      refine lv_iload_n hx hb dL_law_95 rfl (lv_at hl 3 rfl) ?_
      refine lv_iconst (v := nI 2) hx hb dL_law_96 (by decide) ?_
      refine st_iadd hx hb dL_law_97 ?_
      refine st_sld hx hb hI.1 (i := i + 2) (by omega) (by omega) dL_law_98 ?_
      refine st_lawX (As := [.int ((xs (i + 1))), .int ((xs (i + 2)))]) (rest := []) E K0 hI hF (mX0_shape l D Ax h0 ad0 k0 T kn g ak (xs (i + 1)) (xs (i + 2)) hK) (lw_V q63 q64 q65 q16 q66) hdX0_shape rfl ⟨rfl, rfl⟩ ⟨Nat.le_of_ble_eq_true rfl, Nat.le_of_ble_eq_true rfl⟩ hl.1 rfl (Nat.le_of_ble_eq_true rfl) ⟨Nat.le_refl _, Nat.le_refl _⟩ dL_law_99 (fun r u H hp hI => ?_)
      obtain ⟨rfl, hp⟩ := hp
      refine lv_aload_n hx hb dL_law_102 rfl (lv_at hl 2 rfl) ?_
      refine lv_aload_n hx hb dL_law_103 rfl (lv_at hl 0 rfl) ?_
      refine lv_iload_n hx hb dL_law_104 rfl (lv_at hl 3 rfl) ?_
      refine lv_iconst (v := nI 1) hx hb dL_law_105 (by decide) ?_
      refine st_iadd hx hb dL_law_106 ?_
      refine st_sld hx hb hI.1 (i := i + 1) (by omega) (by omega) dL_law_107 ?_
      refine lv_aload_n hx hb dL_law_108 rfl (lv_at hl 0 rfl) ?_
      refine lv_iload_n hx hb dL_law_109 rfl (lv_at hl 3 rfl) ?_
      refine lv_iconst (v := nI 2) hx hb dL_law_110 (by decide) ?_
      refine st_iadd hx hb dL_law_111 ?_
      refine st_sld hx hb hI.1 (i := i + 2) (by omega) (by omega) dL_law_112 ?_
      refine st_lawM (As := [.int ((xs (i + 1))), .int ((xs (i + 2)))]) (rest := [.int ((st_shR T (xs (i + 1)) (xs (i + 2))))]) E K1 hI hF (mX1_shape l D Am h1 ad1 k1 M kb bl (xs (i + 1)) (xs (i + 2)) hM) (lw_V q170 q171 q172 q17 q173) hdX1_shape rfl ⟨rfl, rfl⟩ ⟨Nat.le_of_ble_eq_true rfl, Nat.le_of_ble_eq_true rfl⟩ hl.1 rfl (Nat.le_of_ble_eq_true rfl) ⟨Nat.le_refl _, Nat.le_refl _⟩ dL_law_113 (fun r v H hq hI => ?_)
      obtain ⟨rfl, hq⟩ := hq
      refine lv_icmp_eq (tgt := 388) hx hb dL_law_116 (by decide) (fun _ => ?_) (fun hne => absurd (st_Rl_shR hRl _ _) hne)
      refine lv_iinc (v := nI (i + 5)) (lv' := [(3, .int (nI (i + 5))), (0, .ref b), (1, .ref h0), (2, .ref h1)]) hx hb dL_law_388 hl (k := 3) rfl (st_inc5 _) (by decide) rfl (fun ls hl => ?_)
      refine lv_goto (tgt := 18) hx hb dL_law_391 (by decide) ?_
      exact ih (i + 5, st_shT0 T (xs (i + 1)) (xs (i + 2)), u, st_shT1 M (xs (i + 1)) (xs (i + 2)), v) _ _ _ ⟨rfl, hI, lv_sub hl [1, 2, 3, 0] rfl, h5, st_wf_sh0 hT _ _, st_wf_sh1 hTM _ _, hp, hq, st_Rl_sh hRl _ _⟩ (by show 400 - (i + 5) < 400 - i; omega)
    · refine lv_tableIn (tgt := 121) (off := 89) hx hb dL_law_32 (by decide) (by decide) (by decide) (by decide) ?_
      refine lv_aload_n hx hb dL_law_121 rfl (lv_at hl 1 rfl) ?_
      refine lv_aload_n hx hb dL_law_122 rfl (lv_at hl 0 rfl) ?_
      refine lv_iload_n hx hb dL_law_123 rfl (lv_at hl 3 rfl) ?_
      refine lv_iconst (v := nI 1) hx hb dL_law_124 (by decide) ?_
      refine st_iadd hx hb dL_law_125 ?_
      refine st_sld hx hb hI.1 (i := i + 1) (by omega) (by omega) dL_law_126 ?_
      refine lv_aload_n hx hb dL_law_127 rfl (lv_at hl 0 rfl) ?_
      refine lv_iload_n hx hb dL_law_128 rfl (lv_at hl 3 rfl) ?_
      refine lv_iconst (v := nI 2) hx hb dL_law_129 (by decide) ?_
      refine st_iadd hx hb dL_law_130 ?_
      refine st_sld hx hb hI.1 (i := i + 2) (by omega) (by omega) dL_law_131 ?_
      refine lv_aload_n hx hb dL_law_132 rfl (lv_at hl 0 rfl) ?_
      refine lv_iload_n hx hb dL_law_133 rfl (lv_at hl 3 rfl) ?_
      refine lv_iconst (v := nI 3) hx hb dL_law_134 (by decide) ?_
      refine st_iadd hx hb dL_law_135 ?_
      refine st_sld hx hb hI.1 (i := i + 3) (by omega) (by omega) dL_law_136 ?_
      refine st_lawX (As := [.int ((xs (i + 1))), .int ((xs (i + 2))), .int ((xs (i + 3)))]) (rest := []) E K0 hI hF (mX0_fun l D Ax h0 ad0 k0 T kn g ak (xs (i + 1)) (xs (i + 2)) (xs (i + 3)) hK) (lw_V q78 q79 q80 q16 q81) hdX0_fun rfl ⟨rfl, rfl⟩ ⟨Nat.le_of_ble_eq_true rfl, Nat.le_of_ble_eq_true rfl⟩ hl.1 rfl (Nat.le_of_ble_eq_true rfl) ⟨Nat.le_refl _, Nat.le_refl _⟩ dL_law_137 (fun r u H hp hI => ?_)
      obtain ⟨rfl, hp⟩ := hp
      refine lv_aload_n hx hb dL_law_140 rfl (lv_at hl 2 rfl) ?_
      refine lv_aload_n hx hb dL_law_141 rfl (lv_at hl 0 rfl) ?_
      refine lv_iload_n hx hb dL_law_142 rfl (lv_at hl 3 rfl) ?_
      refine lv_iconst (v := nI 1) hx hb dL_law_143 (by decide) ?_
      refine st_iadd hx hb dL_law_144 ?_
      refine st_sld hx hb hI.1 (i := i + 1) (by omega) (by omega) dL_law_145 ?_
      refine lv_aload_n hx hb dL_law_146 rfl (lv_at hl 0 rfl) ?_
      refine lv_iload_n hx hb dL_law_147 rfl (lv_at hl 3 rfl) ?_
      refine lv_iconst (v := nI 2) hx hb dL_law_148 (by decide) ?_
      refine st_iadd hx hb dL_law_149 ?_
      refine st_sld hx hb hI.1 (i := i + 2) (by omega) (by omega) dL_law_150 ?_
      refine lv_aload_n hx hb dL_law_151 rfl (lv_at hl 0 rfl) ?_
      refine lv_iload_n hx hb dL_law_152 rfl (lv_at hl 3 rfl) ?_
      refine lv_iconst (v := nI 3) hx hb dL_law_153 (by decide) ?_
      refine st_iadd hx hb dL_law_154 ?_
      refine st_sld hx hb hI.1 (i := i + 3) (by omega) (by omega) dL_law_155 ?_
      refine st_lawM (As := [.int ((xs (i + 1))), .int ((xs (i + 2))), .int ((xs (i + 3)))]) (rest := [.int ((st_fnR T (xs (i + 1)) (xs (i + 2)) (xs (i + 3))))]) E K1 hI hF (mX1_fun l D Am h1 ad1 k1 M kb bl (xs (i + 1)) (xs (i + 2)) (xs (i + 3)) hM) (lw_V q178 q179 q180 q17 q181) hdX1_fun rfl ⟨rfl, rfl⟩ ⟨Nat.le_of_ble_eq_true rfl, Nat.le_of_ble_eq_true rfl⟩ hl.1 rfl (Nat.le_of_ble_eq_true rfl) ⟨Nat.le_refl _, Nat.le_refl _⟩ dL_law_156 (fun r v H hq hI => ?_)
      obtain ⟨rfl, hq⟩ := hq
      refine lv_icmp_eq (tgt := 388) hx hb dL_law_159 (by decide) (fun _ => ?_) (fun hne => absurd (st_Rl_fnR hRl _ _ _) hne)
      refine lv_iinc (v := nI (i + 5)) (lv' := [(3, .int (nI (i + 5))), (0, .ref b), (1, .ref h0), (2, .ref h1)]) hx hb dL_law_388 hl (k := 3) rfl (st_inc5 _) (by decide) rfl (fun ls hl => ?_)
      refine lv_goto (tgt := 18) hx hb dL_law_391 (by decide) ?_
      exact ih (i + 5, st_fnT0 T (xs (i + 1)) (xs (i + 2)) (xs (i + 3)), u, st_fnT1 M (xs (i + 1)) (xs (i + 2)) (xs (i + 3)), v) _ _ _ ⟨rfl, hI, lv_sub hl [1, 2, 3, 0] rfl, h5, st_wf_fn0 hT _ _ _, st_wf_fn1 hTM _ _ _, hp, hq, st_Rl_fn hRl _ _ _⟩ (by show 400 - (i + 5) < 400 - i; omega)
    · refine lv_tableIn (tgt := 164) (off := 132) hx hb dL_law_32 (by decide) (by decide) (by decide) (by decide) ?_
      refine lv_aload_n hx hb dL_law_164 rfl (lv_at hl 1 rfl) ?_
      refine lv_aload_n hx hb dL_law_165 rfl (lv_at hl 0 rfl) ?_
      refine lv_iload_n hx hb dL_law_166 rfl (lv_at hl 3 rfl) ?_
      refine lv_iconst (v := nI 1) hx hb dL_law_167 (by decide) ?_
      refine st_iadd hx hb dL_law_168 ?_
      refine st_sld hx hb hI.1 (i := i + 1) (by omega) (by omega) dL_law_169 ?_
      refine lv_aload_n hx hb dL_law_170 rfl (lv_at hl 0 rfl) ?_
      refine lv_iload_n hx hb dL_law_171 rfl (lv_at hl 3 rfl) ?_
      refine lv_iconst (v := nI 2) hx hb dL_law_172 (by decide) ?_
      refine st_iadd hx hb dL_law_173 ?_
      refine st_sld hx hb hI.1 (i := i + 2) (by omega) (by omega) dL_law_174 ?_
      refine lv_aload_n hx hb dL_law_175 rfl (lv_at hl 0 rfl) ?_
      refine lv_iload_n hx hb dL_law_176 rfl (lv_at hl 3 rfl) ?_
      refine lv_iconst (v := nI 3) hx hb dL_law_177 (by decide) ?_
      refine st_iadd hx hb dL_law_178 ?_
      refine st_sld hx hb hI.1 (i := i + 3) (by omega) (by omega) dL_law_179 ?_
      refine lv_aload_n hx hb dL_law_180 rfl (lv_at hl 0 rfl) ?_
      refine lv_iload_n hx hb dL_law_181 rfl (lv_at hl 3 rfl) ?_
      refine lv_iconst (v := nI 4) hx hb dL_law_182 (by decide) ?_
      refine st_iadd hx hb dL_law_183 ?_
      refine st_sld hx hb hI.1 (i := i + 4) (by omega) (by omega) dL_law_184 ?_
      refine st_lawX (As := [.int ((xs (i + 1))), .int ((xs (i + 2))), .int ((xs (i + 3))), .int ((xs (i + 4)))]) (rest := []) E K0 hI hF (mX0_field l D Ax h0 ad0 k0 T kn g ak (xs (i + 1)) (xs (i + 2)) (xs (i + 3)) (xs (i + 4)) hT hK) (lw_V q82 q83 q84 q16 q85) hdX0_field rfl ⟨rfl, rfl⟩ ⟨Nat.le_of_ble_eq_true rfl, Nat.le_of_ble_eq_true rfl⟩ hl.1 rfl (Nat.le_of_ble_eq_true rfl) ⟨Nat.le_refl _, Nat.le_refl _⟩ dL_law_185 (fun r u H hp hI => ?_)
      obtain ⟨rfl, hp⟩ := hp
      refine lv_aload_n hx hb dL_law_188 rfl (lv_at hl 2 rfl) ?_
      refine lv_aload_n hx hb dL_law_189 rfl (lv_at hl 0 rfl) ?_
      refine lv_iload_n hx hb dL_law_190 rfl (lv_at hl 3 rfl) ?_
      refine lv_iconst (v := nI 1) hx hb dL_law_191 (by decide) ?_
      refine st_iadd hx hb dL_law_192 ?_
      refine st_sld hx hb hI.1 (i := i + 1) (by omega) (by omega) dL_law_193 ?_
      refine lv_aload_n hx hb dL_law_194 rfl (lv_at hl 0 rfl) ?_
      refine lv_iload_n hx hb dL_law_195 rfl (lv_at hl 3 rfl) ?_
      refine lv_iconst (v := nI 2) hx hb dL_law_196 (by decide) ?_
      refine st_iadd hx hb dL_law_197 ?_
      refine st_sld hx hb hI.1 (i := i + 2) (by omega) (by omega) dL_law_198 ?_
      refine lv_aload_n hx hb dL_law_199 rfl (lv_at hl 0 rfl) ?_
      refine lv_iload_n hx hb dL_law_200 rfl (lv_at hl 3 rfl) ?_
      refine lv_iconst (v := nI 3) hx hb dL_law_201 (by decide) ?_
      refine st_iadd hx hb dL_law_202 ?_
      refine st_sld hx hb hI.1 (i := i + 3) (by omega) (by omega) dL_law_203 ?_
      refine lv_aload_n hx hb dL_law_204 rfl (lv_at hl 0 rfl) ?_
      refine lv_iload_n hx hb dL_law_205 rfl (lv_at hl 3 rfl) ?_
      refine lv_iconst (v := nI 4) hx hb dL_law_206 (by decide) ?_
      refine st_iadd hx hb dL_law_207 ?_
      refine st_sld hx hb hI.1 (i := i + 4) (by omega) (by omega) dL_law_208 ?_
      refine st_lawM (As := [.int ((xs (i + 1))), .int ((xs (i + 2))), .int ((xs (i + 3))), .int ((xs (i + 4)))]) (rest := [.int ((st_fdR T (xs (i + 1)) (xs (i + 2)) (xs (i + 3))))]) E K1 hI hF (mX1_field l D Am h1 ad1 k1 M kb bl (xs (i + 1)) (xs (i + 2)) (xs (i + 3)) (xs (i + 4)) hTM hM) (lw_V q182 q183 q184 q17 q185) hdX1_field rfl ⟨rfl, rfl⟩ ⟨Nat.le_of_ble_eq_true rfl, Nat.le_of_ble_eq_true rfl⟩ hl.1 rfl (Nat.le_of_ble_eq_true rfl) ⟨Nat.le_refl _, Nat.le_refl _⟩ dL_law_209 (fun r v H hq hI => ?_)
      obtain ⟨rfl, hq⟩ := hq
      refine lv_icmp_eq (tgt := 388) hx hb dL_law_212 (by decide) (fun _ => ?_) (fun hne => absurd (st_Rl_fdR hRl _ _ _) hne)
      refine lv_iinc (v := nI (i + 5)) (lv' := [(3, .int (nI (i + 5))), (0, .ref b), (1, .ref h0), (2, .ref h1)]) hx hb dL_law_388 hl (k := 3) rfl (st_inc5 _) (by decide) rfl (fun ls hl => ?_)
      refine lv_goto (tgt := 18) hx hb dL_law_391 (by decide) ?_
      exact ih (i + 5, st_fdT T (xs (i + 1)) (xs (i + 2)) (xs (i + 3)) (xs (i + 4)), u, st_fdT M (xs (i + 1)) (xs (i + 2)) (xs (i + 3)) (xs (i + 4)), v) _ _ _ ⟨rfl, hI, lv_sub hl [1, 2, 3, 0] rfl, h5, st_wf_fd hT _ _ _ _, st_wf_fd hTM _ _ _ _, hp, hq, st_Rl_fd hRl _ _ _ _⟩ (by show 400 - (i + 5) < 400 - i; omega)
    · refine lv_tableIn (tgt := 217) (off := 185) hx hb dL_law_32 (by decide) (by decide) (by decide) (by decide) ?_
      refine lv_aload_n hx hb dL_law_217 rfl (lv_at hl 1 rfl) ?_
      refine lv_aload_n hx hb dL_law_218 rfl (lv_at hl 0 rfl) ?_
      refine lv_iload_n hx hb dL_law_219 rfl (lv_at hl 3 rfl) ?_
      refine lv_iconst (v := nI 1) hx hb dL_law_220 (by decide) ?_
      refine st_iadd hx hb dL_law_221 ?_
      refine st_sld hx hb hI.1 (i := i + 1) (by omega) (by omega) dL_law_222 ?_
      refine lv_aload_n hx hb dL_law_223 rfl (lv_at hl 0 rfl) ?_
      refine lv_iload_n hx hb dL_law_224 rfl (lv_at hl 3 rfl) ?_
      refine lv_iconst (v := nI 2) hx hb dL_law_225 (by decide) ?_
      refine st_iadd hx hb dL_law_226 ?_
      refine st_sld hx hb hI.1 (i := i + 2) (by omega) (by omega) dL_law_227 ?_
      refine st_lawX (As := [.int ((xs (i + 1))), .int ((xs (i + 2)))]) (rest := []) E K0 hI hF (mX0_dropField l D Ax h0 ad0 k0 T kn g ak (xs (i + 1)) (xs (i + 2)) hT hK) (lw_V q86 q87 q88 q16 q89) hdX0_dropField rfl ⟨rfl, rfl⟩ ⟨Nat.le_of_ble_eq_true rfl, Nat.le_of_ble_eq_true rfl⟩ hl.1 rfl (Nat.le_of_ble_eq_true rfl) ⟨Nat.le_refl _, Nat.le_refl _⟩ dL_law_228 (fun r u H hp hI => ?_)
      obtain ⟨rfl, hp⟩ := hp
      refine lv_aload_n hx hb dL_law_231 rfl (lv_at hl 2 rfl) ?_
      refine lv_aload_n hx hb dL_law_232 rfl (lv_at hl 0 rfl) ?_
      refine lv_iload_n hx hb dL_law_233 rfl (lv_at hl 3 rfl) ?_
      refine lv_iconst (v := nI 1) hx hb dL_law_234 (by decide) ?_
      refine st_iadd hx hb dL_law_235 ?_
      refine st_sld hx hb hI.1 (i := i + 1) (by omega) (by omega) dL_law_236 ?_
      refine lv_aload_n hx hb dL_law_237 rfl (lv_at hl 0 rfl) ?_
      refine lv_iload_n hx hb dL_law_238 rfl (lv_at hl 3 rfl) ?_
      refine lv_iconst (v := nI 2) hx hb dL_law_239 (by decide) ?_
      refine st_iadd hx hb dL_law_240 ?_
      refine st_sld hx hb hI.1 (i := i + 2) (by omega) (by omega) dL_law_241 ?_
      refine st_lawM (As := [.int ((xs (i + 1))), .int ((xs (i + 2)))]) (rest := [.int ((st_dpR T (xs (i + 1)) (xs (i + 2))))]) E K1 hI hF (mX1_dropField l D Am h1 ad1 k1 M kb bl (xs (i + 1)) (xs (i + 2)) hTM hM) (lw_V q194 q195 q196 q17 q197) hdX1_dropField rfl ⟨rfl, rfl⟩ ⟨Nat.le_of_ble_eq_true rfl, Nat.le_of_ble_eq_true rfl⟩ hl.1 rfl (Nat.le_of_ble_eq_true rfl) ⟨Nat.le_refl _, Nat.le_refl _⟩ dL_law_242 (fun r v H hq hI => ?_)
      obtain ⟨rfl, hq⟩ := hq
      refine lv_icmp_eq (tgt := 388) hx hb dL_law_245 (by decide) (fun _ => ?_) (fun hne => absurd (st_Rl_dpR hRl _ _) hne)
      refine lv_iinc (v := nI (i + 5)) (lv' := [(3, .int (nI (i + 5))), (0, .ref b), (1, .ref h0), (2, .ref h1)]) hx hb dL_law_388 hl (k := 3) rfl (st_inc5 _) (by decide) rfl (fun ls hl => ?_)
      refine lv_goto (tgt := 18) hx hb dL_law_391 (by decide) ?_
      exact ih (i + 5, st_dpT T (xs (i + 1)) (xs (i + 2)), u, st_dpT M (xs (i + 1)) (xs (i + 2)), v) _ _ _ ⟨rfl, hI, lv_sub hl [1, 2, 3, 0] rfl, h5, st_wf_dp hT _ _, st_wf_dp hTM _ _, hp, hq, st_Rl_dp hRl _ _⟩ (by show 400 - (i + 5) < 400 - i; omega)
    · refine lv_tableIn (tgt := 250) (off := 218) hx hb dL_law_32 (by decide) (by decide) (by decide) (by decide) ?_
      refine lv_aload_n hx hb dL_law_250 rfl (lv_at hl 1 rfl) ?_
      refine lv_aload_n hx hb dL_law_251 rfl (lv_at hl 0 rfl) ?_
      refine lv_iload_n hx hb dL_law_252 rfl (lv_at hl 3 rfl) ?_
      refine lv_iconst (v := nI 1) hx hb dL_law_253 (by decide) ?_
      refine st_iadd hx hb dL_law_254 ?_
      refine st_sld hx hb hI.1 (i := i + 1) (by omega) (by omega) dL_law_255 ?_
      refine lv_aload_n hx hb dL_law_256 rfl (lv_at hl 0 rfl) ?_
      refine lv_iload_n hx hb dL_law_257 rfl (lv_at hl 3 rfl) ?_
      refine lv_iconst (v := nI 2) hx hb dL_law_258 (by decide) ?_
      refine st_iadd hx hb dL_law_259 ?_
      refine st_sld hx hb hI.1 (i := i + 2) (by omega) (by omega) dL_law_260 ?_
      refine st_lawX (As := [.int ((xs (i + 1))), .int ((xs (i + 2)))]) (rest := []) E K0 hI hF (mX0_subtype l D Ax h0 ad0 k0 T kn g ak (xs (i + 1)) (xs (i + 2)) hT hK) (lw_V q90 q91 q92 q16 q93) hdX0_subtype rfl ⟨rfl, rfl⟩ ⟨Nat.le_of_ble_eq_true rfl, Nat.le_of_ble_eq_true rfl⟩ hl.1 rfl (Nat.le_of_ble_eq_true rfl) ⟨Nat.le_refl _, Nat.le_refl _⟩ dL_law_261 (fun r u H hp hI => ?_)
      obtain ⟨rfl, hp⟩ := hp
      refine lv_aload_n hx hb dL_law_264 rfl (lv_at hl 2 rfl) ?_
      refine lv_aload_n hx hb dL_law_265 rfl (lv_at hl 0 rfl) ?_
      refine lv_iload_n hx hb dL_law_266 rfl (lv_at hl 3 rfl) ?_
      refine lv_iconst (v := nI 1) hx hb dL_law_267 (by decide) ?_
      refine st_iadd hx hb dL_law_268 ?_
      refine st_sld hx hb hI.1 (i := i + 1) (by omega) (by omega) dL_law_269 ?_
      refine lv_aload_n hx hb dL_law_270 rfl (lv_at hl 0 rfl) ?_
      refine lv_iload_n hx hb dL_law_271 rfl (lv_at hl 3 rfl) ?_
      refine lv_iconst (v := nI 2) hx hb dL_law_272 (by decide) ?_
      refine st_iadd hx hb dL_law_273 ?_
      refine st_sld hx hb hI.1 (i := i + 2) (by omega) (by omega) dL_law_274 ?_
      refine st_lawM (As := [.int ((xs (i + 1))), .int ((xs (i + 2)))]) (rest := [.int ((st_suR T (xs (i + 1)) (xs (i + 2))))]) E K1 hI hF (mX1_subtype l D Am h1 ad1 k1 M kb bl (xs (i + 1)) (xs (i + 2)) hTM hM) (lw_V q198 q199 q200 q17 q201) hdX1_subtype rfl ⟨rfl, rfl⟩ ⟨Nat.le_of_ble_eq_true rfl, Nat.le_of_ble_eq_true rfl⟩ hl.1 rfl (Nat.le_of_ble_eq_true rfl) ⟨Nat.le_refl _, Nat.le_refl _⟩ dL_law_275 (fun r v H hq hI => ?_)
      obtain ⟨rfl, hq⟩ := hq
      refine lv_icmp_eq (tgt := 388) hx hb dL_law_278 (by decide) (fun _ => ?_) (fun hne => absurd (st_Rl_su hRl _ _) hne)
      refine lv_iinc (v := nI (i + 5)) (lv' := [(3, .int (nI (i + 5))), (0, .ref b), (1, .ref h0), (2, .ref h1)]) hx hb dL_law_388 hl (k := 3) rfl (st_inc5 _) (by decide) rfl (fun ls hl => ?_)
      refine lv_goto (tgt := 18) hx hb dL_law_391 (by decide) ?_
      exact ih (i + 5, T, u, M, v) _ _ _ ⟨rfl, hI, lv_sub hl [1, 2, 3, 0] rfl, h5, hT, hTM, hp, hq, hRl⟩ (by show 400 - (i + 5) < 400 - i; omega)
    · refine lv_tableIn (tgt := 283) (off := 251) hx hb dL_law_32 (by decide) (by decide) (by decide) (by decide) ?_
      refine lv_aload_n hx hb dL_law_283 rfl (lv_at hl 1 rfl) ?_
      refine lv_aload_n hx hb dL_law_284 rfl (lv_at hl 0 rfl) ?_
      refine lv_iload_n hx hb dL_law_285 rfl (lv_at hl 3 rfl) ?_
      refine lv_iconst (v := nI 1) hx hb dL_law_286 (by decide) ?_
      refine st_iadd hx hb dL_law_287 ?_
      refine st_sld hx hb hI.1 (i := i + 1) (by omega) (by omega) dL_law_288 ?_
      refine lv_aload_n hx hb dL_law_289 rfl (lv_at hl 0 rfl) ?_
      refine lv_iload_n hx hb dL_law_290 rfl (lv_at hl 3 rfl) ?_
      refine lv_iconst (v := nI 2) hx hb dL_law_291 (by decide) ?_
      refine st_iadd hx hb dL_law_292 ?_
      refine st_sld hx hb hI.1 (i := i + 2) (by omega) (by omega) dL_law_293 ?_
      refine st_lawX (As := [.int ((xs (i + 1))), .int ((xs (i + 2)))]) (rest := []) E K0 hI hF (mX0_equivalent l D Ax h0 ad0 k0 T kn g ak (xs (i + 1)) (xs (i + 2)) hT hK) (lw_V q118 q119 q120 q16 q121) hdX0_equivalent rfl ⟨rfl, rfl⟩ ⟨Nat.le_of_ble_eq_true rfl, Nat.le_of_ble_eq_true rfl⟩ hl.1 rfl (Nat.le_of_ble_eq_true rfl) ⟨Nat.le_refl _, Nat.le_refl _⟩ dL_law_294 (fun r u H hp hI => ?_)
      obtain ⟨rfl, hp⟩ := hp
      refine lv_aload_n hx hb dL_law_297 rfl (lv_at hl 2 rfl) ?_
      refine lv_aload_n hx hb dL_law_298 rfl (lv_at hl 0 rfl) ?_
      refine lv_iload_n hx hb dL_law_299 rfl (lv_at hl 3 rfl) ?_
      refine lv_iconst (v := nI 1) hx hb dL_law_300 (by decide) ?_
      refine st_iadd hx hb dL_law_301 ?_
      refine st_sld hx hb hI.1 (i := i + 1) (by omega) (by omega) dL_law_302 ?_
      refine lv_aload_n hx hb dL_law_303 rfl (lv_at hl 0 rfl) ?_
      refine lv_iload_n hx hb dL_law_304 rfl (lv_at hl 3 rfl) ?_
      refine lv_iconst (v := nI 2) hx hb dL_law_305 (by decide) ?_
      refine st_iadd hx hb dL_law_306 ?_
      refine st_sld hx hb hI.1 (i := i + 2) (by omega) (by omega) dL_law_307 ?_
      refine st_lawM (As := [.int ((xs (i + 1))), .int ((xs (i + 2)))]) (rest := [.int ((st_eqR T (xs (i + 1)) (xs (i + 2))))]) E K1 hI hF (mX1_equivalent l D Am h1 ad1 k1 M kb bl (xs (i + 1)) (xs (i + 2)) hTM hM) (lw_V q214 q215 q216 q17 q217) hdX1_equivalent rfl ⟨rfl, rfl⟩ ⟨Nat.le_of_ble_eq_true rfl, Nat.le_of_ble_eq_true rfl⟩ hl.1 rfl (Nat.le_of_ble_eq_true rfl) ⟨Nat.le_refl _, Nat.le_refl _⟩ dL_law_308 (fun r v H hq hI => ?_)
      obtain ⟨rfl, hq⟩ := hq
      refine lv_icmp_eq (tgt := 388) hx hb dL_law_311 (by decide) (fun _ => ?_) (fun hne => absurd (st_Rl_eq hRl _ _) hne)
      refine lv_iinc (v := nI (i + 5)) (lv' := [(3, .int (nI (i + 5))), (0, .ref b), (1, .ref h0), (2, .ref h1)]) hx hb dL_law_388 hl (k := 3) rfl (st_inc5 _) (by decide) rfl (fun ls hl => ?_)
      refine lv_goto (tgt := 18) hx hb dL_law_391 (by decide) ?_
      exact ih (i + 5, T, u, M, v) _ _ _ ⟨rfl, hI, lv_sub hl [1, 2, 3, 0] rfl, h5, hT, hTM, hp, hq, hRl⟩ (by show 400 - (i + 5) < 400 - i; omega)
    · refine lv_tableIn (tgt := 316) (off := 284) hx hb dL_law_32 (by decide) (by decide) (by decide) (by decide) ?_
      refine lv_aload_n hx hb dL_law_316 rfl (lv_at hl 1 rfl) ?_
      refine lv_aload_n hx hb dL_law_317 rfl (lv_at hl 0 rfl) ?_
      refine lv_iload_n hx hb dL_law_318 rfl (lv_at hl 3 rfl) ?_
      refine lv_iconst (v := nI 1) hx hb dL_law_319 (by decide) ?_
      refine st_iadd hx hb dL_law_320 ?_
      refine st_sld hx hb hI.1 (i := i + 1) (by omega) (by omega) dL_law_321 ?_
      refine st_lawX (As := [.int ((xs (i + 1)))]) (rest := []) E K0 hI hF (mX0_subtypes l D Ax h0 ad0 k0 T kn g ak (xs (i + 1)) hT hK) (lw_V q126 q127 q128 q16 q129) hdX0_subtypes rfl ⟨rfl, rfl⟩ ⟨Nat.le_of_ble_eq_true rfl, Nat.le_of_ble_eq_true rfl⟩ hl.1 rfl (Nat.le_of_ble_eq_true rfl) ⟨Nat.le_refl _, Nat.le_refl _⟩ dL_law_322 (fun r u H hp hI => ?_)
      obtain ⟨rfl, hp⟩ := hp
      refine lv_aload_n hx hb dL_law_325 rfl (lv_at hl 2 rfl) ?_
      refine lv_aload_n hx hb dL_law_326 rfl (lv_at hl 0 rfl) ?_
      refine lv_iload_n hx hb dL_law_327 rfl (lv_at hl 3 rfl) ?_
      refine lv_iconst (v := nI 1) hx hb dL_law_328 (by decide) ?_
      refine st_iadd hx hb dL_law_329 ?_
      refine st_sld hx hb hI.1 (i := i + 1) (by omega) (by omega) dL_law_330 ?_
      refine st_lawM (As := [.int ((xs (i + 1)))]) (rest := [.int ((st_sbR T (xs (i + 1))))]) E K1 hI hF (mX1_subtypes l D Am h1 ad1 k1 M kb bl (xs (i + 1)) hTM hM) (lw_V q219 q220 q221 q17 q222) hdX1_subtypes rfl ⟨rfl, rfl⟩ ⟨Nat.le_of_ble_eq_true rfl, Nat.le_of_ble_eq_true rfl⟩ hl.1 rfl (Nat.le_of_ble_eq_true rfl) ⟨Nat.le_refl _, Nat.le_refl _⟩ dL_law_331 (fun r v H hq hI => ?_)
      obtain ⟨rfl, hq⟩ := hq
      refine lv_icmp_eq (tgt := 388) hx hb dL_law_334 (by decide) (fun _ => ?_) (fun hne => absurd (st_Rl_sb hRl _) hne)
      refine lv_iinc (v := nI (i + 5)) (lv' := [(3, .int (nI (i + 5))), (0, .ref b), (1, .ref h0), (2, .ref h1)]) hx hb dL_law_388 hl (k := 3) rfl (st_inc5 _) (by decide) rfl (fun ls hl => ?_)
      refine lv_goto (tgt := 18) hx hb dL_law_391 (by decide) ?_
      exact ih (i + 5, T, u, M, v) _ _ _ ⟨rfl, hI, lv_sub hl [1, 2, 3, 0] rfl, h5, hT, hTM, hp, hq, hRl⟩ (by show 400 - (i + 5) < 400 - i; omega)
    · refine lv_tableIn (tgt := 339) (off := 307) hx hb dL_law_32 (by decide) (by decide) (by decide) (by decide) ?_
      refine lv_aload_n hx hb dL_law_339 rfl (lv_at hl 1 rfl) ?_
      refine st_lawX (As := []) (rest := []) E K0 hI hF (mX0_kinds l D Ax h0 ad0 k0 T kn g ak  hT hK) (lw_V q130 q131 q132 q16 q133) hdX0_kinds rfl ⟨rfl, rfl⟩ ⟨Nat.le_of_ble_eq_true rfl, Nat.le_of_ble_eq_true rfl⟩ hl.1 rfl (Nat.le_of_ble_eq_true rfl) ⟨Nat.le_refl _, Nat.le_refl _⟩ dL_law_340 (fun r u H hp hI => ?_)
      obtain ⟨rfl, hp⟩ := hp
      refine lv_aload_n hx hb dL_law_343 rfl (lv_at hl 2 rfl) ?_
      refine st_lawM (As := []) (rest := [.int ((st_kdR T))]) E K1 hI hF (mX1_kinds l D Am h1 ad1 k1 M kb bl  hTM hM) (lw_V q223 q224 q225 q17 q226) hdX1_kinds rfl ⟨rfl, rfl⟩ ⟨Nat.le_of_ble_eq_true rfl, Nat.le_of_ble_eq_true rfl⟩ hl.1 rfl (Nat.le_of_ble_eq_true rfl) ⟨Nat.le_refl _, Nat.le_refl _⟩ dL_law_344 (fun r v H hq hI => ?_)
      obtain ⟨rfl, hq⟩ := hq
      refine lv_icmp_eq (tgt := 388) hx hb dL_law_347 (by decide) (fun _ => ?_) (fun hne => absurd (st_Rl_kd hRl ) hne)
      refine lv_iinc (v := nI (i + 5)) (lv' := [(3, .int (nI (i + 5))), (0, .ref b), (1, .ref h0), (2, .ref h1)]) hx hb dL_law_388 hl (k := 3) rfl (st_inc5 _) (by decide) rfl (fun ls hl => ?_)
      refine lv_goto (tgt := 18) hx hb dL_law_391 (by decide) ?_
      exact ih (i + 5, T, u, M, v) _ _ _ ⟨rfl, hI, lv_sub hl [1, 2, 3, 0] rfl, h5, hT, hTM, hp, hq, hRl⟩ (by show 400 - (i + 5) < 400 - i; omega)
    · refine lv_tableIn (tgt := 352) (off := 320) hx hb dL_law_32 (by decide) (by decide) (by decide) (by decide) ?_
      refine lv_aload_n hx hb dL_law_352 rfl (lv_at hl 1 rfl) ?_
      refine st_lawX (As := []) (rest := []) E K0 hI hF (mX0_unrelated l D Ax h0 ad0 k0 T kn g ak  hT hK) (lw_V q134 q135 q136 q16 q137) hdX0_unrelated rfl ⟨rfl, rfl⟩ ⟨Nat.le_of_ble_eq_true rfl, Nat.le_of_ble_eq_true rfl⟩ hl.1 rfl (Nat.le_of_ble_eq_true rfl) ⟨Nat.le_refl _, Nat.le_refl _⟩ dL_law_353 (fun r u H hp hI => ?_)
      obtain ⟨rfl, hp⟩ := hp
      refine lv_aload_n hx hb dL_law_356 rfl (lv_at hl 2 rfl) ?_
      refine st_lawM (As := []) (rest := [.int ((st_urR T))]) E K1 hI hF (mX1_unrelated l D Am h1 ad1 k1 M kb bl  hTM hM) (lw_V q228 q229 q230 q17 q231) hdX1_unrelated rfl ⟨rfl, rfl⟩ ⟨Nat.le_of_ble_eq_true rfl, Nat.le_of_ble_eq_true rfl⟩ hl.1 rfl (Nat.le_of_ble_eq_true rfl) ⟨Nat.le_refl _, Nat.le_refl _⟩ dL_law_357 (fun r v H hq hI => ?_)
      obtain ⟨rfl, hq⟩ := hq
      refine lv_icmp_eq (tgt := 388) hx hb dL_law_360 (by decide) (fun _ => ?_) (fun hne => absurd (st_Rl_ur hRl ) hne)
      refine lv_iinc (v := nI (i + 5)) (lv' := [(3, .int (nI (i + 5))), (0, .ref b), (1, .ref h0), (2, .ref h1)]) hx hb dL_law_388 hl (k := 3) rfl (st_inc5 _) (by decide) rfl (fun ls hl => ?_)
      refine lv_goto (tgt := 18) hx hb dL_law_391 (by decide) ?_
      exact ih (i + 5, T, u, M, v) _ _ _ ⟨rfl, hI, lv_sub hl [1, 2, 3, 0] rfl, h5, hT, hTM, hp, hq, hRl⟩ (by show 400 - (i + 5) < 400 - i; omega)
    · refine lv_tableIn (tgt := 365) (off := 333) hx hb dL_law_32 (by decide) (by decide) (by decide) (by decide) ?_
      refine lv_aload_n hx hb dL_law_365 rfl (lv_at hl 1 rfl) ?_
      refine lv_aload_n hx hb dL_law_366 rfl (lv_at hl 0 rfl) ?_
      refine lv_iload_n hx hb dL_law_367 rfl (lv_at hl 3 rfl) ?_
      refine lv_iconst (v := nI 1) hx hb dL_law_368 (by decide) ?_
      refine st_iadd hx hb dL_law_369 ?_
      refine st_sld hx hb hI.1 (i := i + 1) (by omega) (by omega) dL_law_370 ?_
      refine st_lawX (As := [.int ((xs (i + 1)))]) (rest := []) E K0 hI hF (mX0_shapeOf l D Ax h0 ad0 k0 T kn g ak (xs (i + 1)) hT hK) (lw_V q138 q139 q140 q16 q141) hdX0_shapeOf rfl ⟨rfl, rfl⟩ ⟨Nat.le_of_ble_eq_true rfl, Nat.le_of_ble_eq_true rfl⟩ hl.1 rfl (Nat.le_of_ble_eq_true rfl) ⟨Nat.le_refl _, Nat.le_refl _⟩ dL_law_371 (fun r u H hp hI => ?_)
      obtain ⟨rfl, hp⟩ := hp
      refine lv_aload_n hx hb dL_law_374 rfl (lv_at hl 2 rfl) ?_
      refine lv_aload_n hx hb dL_law_375 rfl (lv_at hl 0 rfl) ?_
      refine lv_iload_n hx hb dL_law_376 rfl (lv_at hl 3 rfl) ?_
      refine lv_iconst (v := nI 1) hx hb dL_law_377 (by decide) ?_
      refine st_iadd hx hb dL_law_378 ?_
      refine st_sld hx hb hI.1 (i := i + 1) (by omega) (by omega) dL_law_379 ?_
      refine st_lawM (As := [.int ((xs (i + 1)))]) (rest := [.int ((st_soR T (xs (i + 1))))]) E K1 hI hF (mX1_shapeOf l D Am h1 ad1 k1 M kb bl (xs (i + 1)) hM) (lw_V q232 q233 q234 q17 q235) hdX1_shapeOf rfl ⟨rfl, rfl⟩ ⟨Nat.le_of_ble_eq_true rfl, Nat.le_of_ble_eq_true rfl⟩ hl.1 rfl (Nat.le_of_ble_eq_true rfl) ⟨Nat.le_refl _, Nat.le_refl _⟩ dL_law_380 (fun r v H hq hI => ?_)
      obtain ⟨rfl, hq⟩ := hq
      refine lv_icmp_eq (tgt := 388) hx hb dL_law_383 (by decide) (fun _ => ?_) (fun hne => absurd (st_Rl_so hRl _) hne)
      refine lv_iinc (v := nI (i + 5)) (lv' := [(3, .int (nI (i + 5))), (0, .ref b), (1, .ref h0), (2, .ref h1)]) hx hb dL_law_388 hl (k := 3) rfl (st_inc5 _) (by decide) rfl (fun ls hl => ?_)
      refine lv_goto (tgt := 18) hx hb dL_law_391 (by decide) ?_
      exact ih (i + 5, T, u, M, v) _ _ _ ⟨rfl, hI, lv_sub hl [1, 2, 3, 0] rfl, h5, hT, hTM, hp, hq, hRl⟩ (by show 400 - (i + 5) < 400 - i; omega)
    · refine lv_tableOut (tgt := 388) hx hb dL_law_32 (Or.inr (by rw [nI_toInt (by omega)]; omega)) (by decide) ?_
      refine lv_iinc (v := nI (i + 5)) (lv' := [(3, .int (nI (i + 5))), (0, .ref b), (1, .ref h0), (2, .ref h1)]) hx hb dL_law_388 hl (k := 3) rfl (st_inc5 _) (by decide) rfl (fun ls hl => ?_)
      refine lv_goto (tgt := 18) hx hb dL_law_391 (by decide) ?_
      exact ih (i + 5, T, (kn, g, ak), M, (kb, bl)) _ _ _ ⟨rfl, hI, lv_sub hl [1, 2, 3, 0] rfl, h5, hT, hTM, hK, hM, hRl⟩ (by show 400 - (i + 5) < 400 - i; omega)
end
section
/-! the law from its entry -/
set_option maxHeartbeats 4000000 in
set_option maxRecDepth 100000 in
/-- from the entry, for every script of at most 320 ints, the law comes to its end with true -/
theorem whole_start {p : Program} {e : Env} {s : State} {m : MethodId} {below : List Frame} {meth : Method} {c : Code} (l : Launch) {b L : Nat} {xs : Nat → Int32} (hL : L ≤ 320) (C0 : lw_At p s m meth c b L xs) : W p l e room_1 s m #[Value.ref b] below meth c s.heap [] 0 0 (lw_Z below #[Value.ref b] s) (entryFrame m ([Value.ref b] : List Value).toArray 4) := by
  obtain ⟨hx, hb, hr, hml, hown, hts0, hX, hbl, hlk, hgv⟩ := C0
  have hb : c.code = cL_law := hb
  have hts : ∀ w ∈ lw_all, w.before #[Value.ref b] s = true := fun w h => hts0 w (lw_all_tbl h)
  obtain ⟨c0_, i0_, hK0⟩ := u_known (C := RX0) (T := TX0) (N := 11) (n := 11) hts0 (fun w h => lw_all_tbl (in_X0 w h)) (hts0 _ (lw_all_tbl q19))
  obtain ⟨c1_, i1_, hK1⟩ := u_known (C := RX1) (T := TX1) (N := 7) (n := 7) hts0 (fun w h => lw_all_tbl (in_X1 w h)) (hts0 _ (lw_all_tbl q143))
  obtain ⟨D, hKc⟩ : ∃ D : va_G, ∀ (k : Nat) (q : vw_C), vwCl[k]? = some q → u_Kn s q.1 q.2.1 q.2.2 (D.1 k) (D.2 k) := by
    refine ⟨(fun k => if k = 0 then c0_ else c1_, fun k => if k = 0 then i0_ else i1_), ?_⟩
    intro k q hq
    match k, hq with
    | 0, hq => cases hq; exact hK0
    | 1, hq => cases hq; exact hK1
    | k + 2, hq => simp [vwCl] at hq
  have hK : va_K D vwCl [] s := ⟨hKc, fun k q hq => by simp at hq⟩
  have hl := lv_entry ([.ref b]) (n := 4) (Nat.le_of_ble_eq_true rfl)
  rw [lg_entry_eq]
  generalize (lg_sl ([.ref b]) ++ List.replicate (4 - (lg_sl ([.ref b])).length) Slot.unset).toArray = ls at hl ⊢
  have hl : lv_has ls 4 [(0, .ref b)] := hl
  have hP : va_P D vwCl [] s.heap := fun k q hq => by simp at hq
  have hD : va_D (fun q => s.heap.size ≤ q) [] := ⟨fun i j x y hi => by simp at hi, fun k q hq => by simp at hq⟩
  have hS : va_S (fun q => s.heap.size ≤ q) s.heap s.heap [] := va_S.rf
  refine va_new (ci := 0) (fs := [.null, .null, .null, .null, .null, .null, .int (nI 0), .null, .null, .null, .int (nI 0)]) (C := RX0) (T := TX0) (N := 11) hx hb hts in_X0 tyX0 tyX0_ok hown (hts _ q18) (hts _ q19) (hts _ q16) hK hP hD hS (fun q h => h) rfl (fun j hj => by rcases (show j = 0 ∨ j = 1 ∨ j = 2 ∨ j = 3 ∨ j = 4 ∨ j = 5 ∨ j = 6 ∨ j = 7 ∨ j = 8 ∨ j = 9 ∨ j = 10 by omega) with rfl | rfl | rfl | rfl | rfl | rfl | rfl | rfl | rfl | rfl | rfl <;> rfl) (Nat.le_of_ble_eq_true rfl) (Nat.le_of_ble_eq_true rfl) dL_law_0 (fun h0 H hP hD hS => ?_)
  refine lv_dup hx hb dL_law_3 rfl ?_
  refine va_callv (va_runI (As := []) (rest := [.ref h0]) ⟨hx, hb, hml, hown, hts⟩ (mX0_init l D (fun q => s.heap.size ≤ q) h0) (cwI 0 hts (lw_meth q22) rfl rfl rfl (hts _ q16) (hts _ q20) (hts _ q21) rfl (by decide +kernel) ⟨Nat.le_of_ble_eq_true rfl, Nat.le_of_ble_eq_true rfl⟩) ⟨fun a U g mk q => by obtain ⟨q0, qA, qP, qK, qD⟩ := q; exact ⟨q0, qA, qP, va_K.moved (u := U) (U := U.calling g mk a) (Vm.Alike.refl U.vm) qK, qD⟩, fun U hU hW => ⟨rfl, fun q hq => Nat.le_trans hS.1 (by rw [hU] at hq; exact hq), by rw [hU]; exact hP, va_K.moved hW.alike hK, hD⟩⟩ rfl rfl hl.1 rfl (lv_room (Nat.le_of_ble_eq_true rfl)) dL_law_4 ⟨Nat.le_of_ble_eq_true rfl, Nat.le_of_ble_eq_true rfl⟩) hS (fun q _ h => h) (fun q h => h) (fun u t H1 locs ht hvm _ hB hz1 hk1 hS => ?_)
  obtain ⟨ad0, k0⟩ := u
  obtain ⟨hP0, K0, hD0⟩ := hB
  rw [ht] at hP0
  have hP0 : va_P D vwCl (w0 h0 ad0 k0 st_T0 st_u0) H1 := hP0
  have hD0 : va_D (fun q => s.heap.size ≤ q ∧ q < H1.size) (w0 h0 ad0 k0 st_T0 st_u0) := va_D.weaken hD0 (fun j q hq hA => ⟨hA, (hP0 j q hq).lt⟩)
  have K0 : va_K D vwCl (ty0 k0) s := va_K.moved hvm.symm K0
  have hX : va_X b L xs s H1 := hX.kept (hS.2.1 b hbl (fun z => absurd z (by omega)))
  have hz : s.heap.size ≤ H1.size := hS.1
  refine va_forget (fun q hq => hS.2.2 q hq) ?_
  clear hS hP hD
  refine lv_astore_n (lv' := [(1, .ref h0), (0, .ref b)]) hx hb dL_law_7 rfl hl (by decide) rfl (fun ls hl => ?_)
  have hP : va_P D vwCl [] H1 := fun k q hq => by simp at hq
  have hD : va_D (fun q => H1.size ≤ q) [] := ⟨fun i j x y hi => by simp at hi, fun k q hq => by simp at hq⟩
  have hS : va_S (fun q => H1.size ≤ q) H1 H1 [] := va_S.rf
  refine va_new (ci := 1) (fs := [.null, .null, .null, .null, .null, .int (nI 0), .null]) (C := RX1) (T := TX1) (N := 7) hx hb hts in_X1 tyX1 tyX1_ok hown (hts _ q142) (hts _ q143) (hts _ q17) hK hP hD hS (fun q h => h) rfl (fun j hj => by rcases (show j = 0 ∨ j = 1 ∨ j = 2 ∨ j = 3 ∨ j = 4 ∨ j = 5 ∨ j = 6 by omega) with rfl | rfl | rfl | rfl | rfl | rfl | rfl <;> rfl) (Nat.le_of_ble_eq_true rfl) (Nat.le_of_ble_eq_true rfl) dL_law_8 (fun h1 H hP hD hS => ?_)
  refine lv_dup hx hb dL_law_11 rfl ?_
  refine va_callv (va_runI (As := []) (rest := [.ref h1]) ⟨hx, hb, hml, hown, hts⟩ (mX1_init l D (fun q => H1.size ≤ q) h1) (cwI 0 hts (lw_meth q146) rfl rfl rfl (hts _ q17) (hts _ q144) (hts _ q145) rfl (by decide +kernel) ⟨Nat.le_of_ble_eq_true rfl, Nat.le_of_ble_eq_true rfl⟩) ⟨fun a U g mk q => by obtain ⟨q0, qA, qP, qK, qD⟩ := q; exact ⟨q0, qA, qP, va_K.moved (u := U) (U := U.calling g mk a) (Vm.Alike.refl U.vm) qK, qD⟩, fun U hU hW => ⟨rfl, fun q hq => Nat.le_trans hS.1 (by rw [hU] at hq; exact hq), by rw [hU]; exact hP, va_K.moved hW.alike hK, hD⟩⟩ rfl rfl hl.1 rfl (lv_room (Nat.le_of_ble_eq_true rfl)) dL_law_12 ⟨Nat.le_of_ble_eq_true rfl, Nat.le_of_ble_eq_true rfl⟩) hS (fun q _ h => h) (fun q h => h) (fun u t H2 locs ht hvm _ hB hz1 hk1 hS => ?_)
  obtain ⟨ad1, k1⟩ := u
  obtain ⟨hP1, K1, hD1⟩ := hB
  rw [ht] at hP1
  have K1 : va_K D vwCl (ty1 k1) s := va_K.moved hvm.symm K1
  refine va_forget (fun q hq => Nat.le_trans hz (hS.2.2 q hq)) ?_
  refine lv_astore_n (lv' := [(2, .ref h1), (1, .ref h0), (0, .ref b)]) hx hb dL_law_15 rfl hl (by decide) rfl (fun ls hl => ?_)
  refine lv_iconst (v := nI 0) hx hb dL_law_16 (by decide) ?_
  refine lv_istore_n (lv' := [(3, .int (nI 0)), (2, .ref h1), (1, .ref h0), (0, .ref b)]) hx hb dL_law_17 rfl hl (by decide) rfl (fun ls hl => ?_)
  refine W.widen (k := 600000) (n := 7290000) (Nat.le_of_ble_eq_true rfl) (Nat.le_of_ble_eq_true rfl) ?_
  exact st_law_loop hL ⟨hx, hb, hml, hown, hts, hK⟩ hr hlk K0 K1 (Ax := fun q => s.heap.size ≤ q ∧ q < H1.size) (Am := fun q => H1.size ≤ q) ⟨fun q h1 h2 => absurd h1.2 (Nat.not_lt.mpr h2), fun q h => h.1, fun q h => Nat.le_trans hz h, hbl⟩ (lv_sub hl [3, 2, 1, 0] rfl) ⟨hX.kept (hS.2.1 b (st_X_lt hX) (fun z => absurd (st_X_lt hX) (Nat.not_lt.mpr z))), hP0.kept (fun j q hq => hS.2.1 q.1 (hP0 j q hq).lt (fun z => absurd (hP0 j q hq).lt (Nat.not_lt.mpr z))), hD0, hP1, hD1⟩
end
section
/-! the claim (the skeleton's rows) -/
set_option maxHeartbeats 4000000 in
theorem lw_walk (l : Launch) (b : Addr) (xs : List Int32) : MetFree l x (headSpec (Jvm.Cond.code x code maxLocals ret :: tables_1) room_1) (lw_P b xs) (fun _ _ _ _ _ => True) lw_Q := by
  refine MetFree.of_bodyS (code := code) (maxLocals := maxLocals) (ret := ret) (by decide) ?_ ?_
  · intro args s m h hn
    obtain ⟨meth, c, h1, h2, h3, h4, h5, h6, -, -⟩ := Cond.code_spec hn (atoms_spec (ws := Jvm.Cond.code x code maxLocals ret :: tables_1) h _ List.mem_cons_self)
    exact ⟨meth, c, h1, h2, h3, h4, h5, h6⟩
  · intro p e s m args below meth c s₁ B hml0 hP _
    obtain ⟨rfl, hx, hbd, hgv⟩ := hP
    obtain ⟨scr, harrAt, hlist, hof, hsmall⟩ := hx
    obtain ⟨hcb, hkn, -, -⟩ := State.arrayAt?_spec harrAt
    have hown : s.vm.findClass R_law = some m.cls := findClass_of_methodNamed B.named
    have hts0 : ∀ c ∈ (Jvm.Cond.code x code maxLocals ret :: tables_1), c.before #[Value.ref b] s = true := atoms_spec (ws := Jvm.Cond.code x code maxLocals ret :: tables_1) B.pre
    have hts : ∀ w ∈ lw_tbl, w.before #[Value.ref b] s = true := k2_hts_sels lw_privs (fun w hw => hts0 w (List.mem_cons_of_mem _ hw)) lw_privs_ok
    have hml : c.maxLocals = 4 := B.maxLocals_eq (hts0 _ List.mem_cons_self)
    have X₀ : Stand p l e room_1 s m #[Value.ref b] below meth c s₁ [] 0 0 := Stand.of_body B
    have hh0 : s₁.heap = s.heap := by rw [B.state]; rfl
    have hsz : scr.slots.size = xs.length := by rw [← Array.length_toList, hlist, List.length_map]
    have hval : ∀ j : Nat, j < xs.length → scr.slots[j]? = some (.int (xs.getD j 0)) := fun j hj => by
      rw [← Array.getElem?_toList, hlist]
      simp [hj]
    have hbl : b < s.heap.size := (Array.getElem?_eq_some_iff.mp hcb).1
    have hX : va_X b xs.length (fun j => xs.getD j 0) s s.heap := ⟨scr, hcb, hof, hkn, hsz, hval⟩
    have K : W p l e room_1 s m #[Value.ref b] below meth c s₁.heap [] 0 0 (lw_Z below #[Value.ref b] s) (entryFrame m ([Value.ref b] : List Value).toArray 4) := by
      rw [hh0]
      exact whole_start l hbd ⟨B.exec, B.bytes, B.returns, hml, hown, hts, hX, hbl, B.notSynchronized, hgv⟩
    obtain ⟨t, a1, o, b1, b2, b3⟩ := K s₁ rfl X₀
    exact ⟨t, o, a1, b1, b2, b3⟩
theorem lw_pre_spec {args : Array Value} {s : State} (h : (Jvm.Cond.and given_1 narrow_1).before args s = true) (hr : rest_1_c.before args s = true) : ∃ (b : Addr) (xs : List Int32), lw_P b xs args s := by
  have hs := flat_of_before _ h
  have hq := flat_of_before _ hr
  have hc : (Cond.count 1).before args s = true := hs _ (by decide +kernel)
  have harr : (Cond.arrayOf (.arg 0) .int).before args s = true := hs _ (by decide +kernel)
  have hle : (Cond.le (.length (.arg 0)) (.int 320)).before args s = true := hs _ (by decide +kernel)
  have hlen : (Cond.isInt (.length (.arg 0))).before args s = true := hq _ (by decide +kernel)
  have hall : (Cond.all (.arg 0) (.isInt (.elem (.arg 0) (.index 0)))).before args s = true := hq _ (by decide +kernel)
  obtain ⟨b, xs, hb, hx⟩ := State.ints_of_pre rfl harr hlen hall
  have hsm : xs.length < 2 ^ 31 := hx.choose_spec.2.2.2
  have hev : (Term.length (.arg 0)).eval args s none [] s = some (.int xs.length.toInt32) := hx.length_eval hb
  have hv := Cond.le_ints hev (show (Term.int 320).eval args s none [] s = some (.int 320) from rfl)
  have hd : xs.length.toInt32 ≤ 320 := by
    simpa [Cond.before, Cond.holds, hv] using hle
  have hN : xs.length ≤ 320 := (Int32.ofNat_le_ofNat hsm (by decide)).mp (show Int32.ofNat xs.length ≤ Int32.ofNat 320 from hd)
  exact ⟨b, xs, Cond.one_arg hc (show args[0]? = some (.ref b) from hb), hx, hN, h⟩
theorem lw_comes (l : Launch) : Comes l x (Jvm.Cond.code x code maxLocals ret :: tables_1) room_1 (fun tb e args s => Calls_1 tb e args s ∧ rest_1 tb e args s ∧ Pre_1 tb e args s)
    (fun _ _ args s o t => lw_Q args s o t) := by
  intro p e ha hc hk s m args below hf hfit hheap happ hpre
  obtain ⟨b, xs, hP⟩ := lw_pre_spec hpre.2.2 hpre.2.1
  obtain ⟨k, o, h1, h2, h3, hQ⟩ := lw_walk l b xs p e ha hc hk s m args below hf ((Spec.applies_iff_loose hf).mp happ).1 hP trivial
  exact ⟨k, o, h1, h2, h3, hQ⟩
theorem lw_frame {s t : State} {o : Outcome} {args : Array Value} (h : Framed s o t [] 600000 7290000) :
    Framed s o t (fieldLocs frame_1_writes args s ++ arrayLocs frame_1_arrays args s ++ staticLocs frame_1_statics s) 600000 7290000 := h
theorem lw_limb (L : Cond) (hL : ∀ (args : Array Value) (s t : State), L.after args s (.returned (some (.int 1))) t = true) :
    ArmFor flags0 classFile x code maxLocals ret World_1 tables_1 room_1 Calls_1 rest_1 Pre_1
      (fun tb e a s o t => postC L tb e a s o t ∧ Framed s o t (fieldLocs frame_1_writes a s ++ arrayLocs frame_1_arrays a s ++ staticLocs frame_1_statics s) 600000 7290000) := by
  intro l _ _ _ p e ha hc hk s m args below hf hfit hheap happ hpre
  obtain ⟨k, o, h1, h2, h3, rfl, hF⟩ := lw_comes l p e ha hc hk s m args below hf hfit hheap happ hpre
  exact ⟨k, _, h1, h2, h3, hL args s _, lw_frame hF⟩
theorem i_vc : Claimed_1_1 ∧ Claimed_1_2 := ⟨lw_limb limb_1_1 (fun args s t => by simp [limb_1_1, Cond.after, Cond.holds, Cond.value]), lw_limb limb_1_2 (fun args s t => Cond.after_iff.mpr (by
  first | (rw [show limb_1_2 = Cond.eq .result (.int 1) from rfl, Cond.eq_ints (x := 1) (y := 1) rfl rfl]; simp; done) | (simp [limb_1_2, Cond.value, Term.eval]; done)))⟩
end
